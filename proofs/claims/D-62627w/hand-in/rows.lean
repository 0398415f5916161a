section
/-- a private method of a class that the tables say can be made, by its rows of tables_1 -/
def lw_okq (q : MethodName × Nat) : Prop := (q.1.cls ≠ "java/lang/invoke/MethodHandle" ∧ q.1.cls ≠ "java/lang/invoke/VarHandle") ∧ Cond.instantiable q.1.cls q.2 ∈ tables_1 ∧ Cond.privateMethod q.1 ∈ tables_1 ∧ Cond.instanceMethod q.1 ∈ tables_1
set_option maxRecDepth 100000
theorem lw_t1 {w : Cond} (h : w ∈ tables_1_1) : w ∈ tables_1 := List.mem_append_left _ h
theorem lw_t2 {w : Cond} (h : w ∈ tables_1_2) : w ∈ tables_1 := List.mem_append_right _ h
theorem lw_p0 : lw_okq (⟨"SparseKernels", "begin", "()V"⟩, 8) := ⟨⟨by decide +kernel, by decide +kernel⟩, lw_t1 (List.mem_of_getElem? (i := 4) rfl), lw_t1 (List.mem_of_getElem? (i := 49) rfl), lw_t1 (List.mem_of_getElem? (i := 50) rfl)⟩
theorem lw_p1 : lw_okq (⟨"SparseKernels", "clearWork", "()V"⟩, 8) := ⟨⟨by decide +kernel, by decide +kernel⟩, lw_t1 (List.mem_of_getElem? (i := 4) rfl), lw_t1 (List.mem_of_getElem? (i := 53) rfl), lw_t1 (List.mem_of_getElem? (i := 54) rfl)⟩
theorem lw_p2 : lw_okq (⟨"SparseKernels", "from", "(II)I"⟩, 8) := ⟨⟨by decide +kernel, by decide +kernel⟩, lw_t1 (List.mem_of_getElem? (i := 4) rfl), lw_t1 (List.mem_of_getElem? (i := 57) rfl), lw_t1 (List.mem_of_getElem? (i := 58) rfl)⟩
theorem lw_p3 : lw_okq (⟨"SparseKernels", "upTo", "(II)I"⟩, 8) := ⟨⟨by decide +kernel, by decide +kernel⟩, lw_t1 (List.mem_of_getElem? (i := 4) rfl), lw_t1 (List.mem_of_getElem? (i := 61) rfl), lw_t1 (List.mem_of_getElem? (i := 62) rfl)⟩
theorem lw_p4 : lw_okq (⟨"SparseKernels", "emitWork", "()V"⟩, 8) := ⟨⟨by decide +kernel, by decide +kernel⟩, lw_t1 (List.mem_of_getElem? (i := 4) rfl), lw_t1 (List.mem_of_getElem? (i := 65) rfl), lw_t1 (List.mem_of_getElem? (i := 66) rfl)⟩
theorem lw_p5 : lw_okq (⟨"SparseKernels", "emit", "(II)V"⟩, 8) := ⟨⟨by decide +kernel, by decide +kernel⟩, lw_t1 (List.mem_of_getElem? (i := 4) rfl), lw_t1 (List.mem_of_getElem? (i := 69) rfl), lw_t1 (List.mem_of_getElem? (i := 70) rfl)⟩
theorem lw_p6 : lw_okq (⟨"SparseKernels", "endRow", "(I)V"⟩, 8) := ⟨⟨by decide +kernel, by decide +kernel⟩, lw_t1 (List.mem_of_getElem? (i := 4) rfl), lw_t1 (List.mem_of_getElem? (i := 73) rfl), lw_t1 (List.mem_of_getElem? (i := 74) rfl)⟩
theorem lw_p7 : lw_okq (⟨"SparseKernels", "store", "(I)I"⟩, 8) := ⟨⟨by decide +kernel, by decide +kernel⟩, lw_t1 (List.mem_of_getElem? (i := 4) rfl), lw_t1 (List.mem_of_getElem? (i := 77) rfl), lw_t1 (List.mem_of_getElem? (i := 78) rfl)⟩
theorem lw_p8 : lw_okq (⟨"SparseKernels", "mergeRow", "(III)V"⟩, 8) := ⟨⟨by decide +kernel, by decide +kernel⟩, lw_t1 (List.mem_of_getElem? (i := 4) rfl), lw_t1 (List.mem_of_getElem? (i := 85) rfl), lw_t1 (List.mem_of_getElem? (i := 86) rfl)⟩
theorem lw_p9 : lw_okq (⟨"SparseKernels", "crossRow", "(III)V"⟩, 8) := ⟨⟨by decide +kernel, by decide +kernel⟩, lw_t1 (List.mem_of_getElem? (i := 4) rfl), lw_t1 (List.mem_of_getElem? (i := 93) rfl), lw_t1 (List.mem_of_getElem? (i := 94) rfl)⟩
theorem lw_p10 : lw_okq (⟨"SparseKernels", "productRow", "(III)V"⟩, 8) := ⟨⟨by decide +kernel, by decide +kernel⟩, lw_t1 (List.mem_of_getElem? (i := 4) rfl), lw_t1 (List.mem_of_getElem? (i := 101) rfl), lw_t1 (List.mem_of_getElem? (i := 102) rfl)⟩
theorem lw_p11 : lw_okq (⟨"SparseKernels", "find", "(III)I"⟩, 8) := ⟨⟨by decide +kernel, by decide +kernel⟩, lw_t1 (List.mem_of_getElem? (i := 4) rfl), lw_t1 (List.mem_of_getElem? (i := 113) rfl), lw_t1 (List.mem_of_getElem? (i := 114) rfl)⟩
theorem lw_p12 : lw_okq (⟨"SparseKernelsModel", "slot", "(I)Z"⟩, 2) := ⟨⟨by decide +kernel, by decide +kernel⟩, lw_t1 (List.mem_of_getElem? (i := 153) rfl), lw_t1 (List.mem_of_getElem? (i := 170) rfl), lw_t1 (List.mem_of_getElem? (i := 171) rfl)⟩
theorem lw_p13 : lw_okq (⟨"SparseKernelsModel", "line", "(I)Z"⟩, 2) := ⟨⟨by decide +kernel, by decide +kernel⟩, lw_t1 (List.mem_of_getElem? (i := 153) rfl), lw_t1 (List.mem_of_getElem? (i := 174) rfl), lw_t1 (List.mem_of_getElem? (i := 175) rfl)⟩
theorem lw_p14 : lw_okq (⟨"SparseKernelsModel", "keep", "(I)I"⟩, 2) := ⟨⟨by decide +kernel, by decide +kernel⟩, lw_t1 (List.mem_of_getElem? (i := 153) rfl), lw_t1 (List.mem_of_getElem? (i := 182) rfl), lw_t1 (List.mem_of_getElem? (i := 183) rfl)⟩
theorem lw_p15 : lw_okq (⟨"SparseKernelsModel", "entry", "(IIII)I"⟩, 2) := ⟨⟨by decide +kernel, by decide +kernel⟩, lw_t1 (List.mem_of_getElem? (i := 153) rfl), lw_t1 (List.mem_of_getElem? (i := 198) rfl), lw_t1 (List.mem_of_getElem? (i := 199) rfl)⟩
def lw_privs_1 : List (MethodName × Nat) := [(⟨"SparseKernels", "begin", "()V"⟩, 8), (⟨"SparseKernels", "clearWork", "()V"⟩, 8), (⟨"SparseKernels", "from", "(II)I"⟩, 8), (⟨"SparseKernels", "upTo", "(II)I"⟩, 8), (⟨"SparseKernels", "emitWork", "()V"⟩, 8), (⟨"SparseKernels", "emit", "(II)V"⟩, 8), (⟨"SparseKernels", "endRow", "(I)V"⟩, 8), (⟨"SparseKernels", "store", "(I)I"⟩, 8), (⟨"SparseKernels", "mergeRow", "(III)V"⟩, 8), (⟨"SparseKernels", "crossRow", "(III)V"⟩, 8), (⟨"SparseKernels", "productRow", "(III)V"⟩, 8), (⟨"SparseKernels", "find", "(III)I"⟩, 8), (⟨"SparseKernelsModel", "slot", "(I)Z"⟩, 2), (⟨"SparseKernelsModel", "line", "(I)Z"⟩, 2), (⟨"SparseKernelsModel", "keep", "(I)I"⟩, 2), (⟨"SparseKernelsModel", "entry", "(IIII)I"⟩, 2)]
theorem lw_r1 : ∀ q ∈ lw_privs_1, lw_okq q := List.forall_mem_cons.mpr ⟨lw_p0, List.forall_mem_cons.mpr ⟨lw_p1, List.forall_mem_cons.mpr ⟨lw_p2, List.forall_mem_cons.mpr ⟨lw_p3, List.forall_mem_cons.mpr ⟨lw_p4, List.forall_mem_cons.mpr ⟨lw_p5, List.forall_mem_cons.mpr ⟨lw_p6, List.forall_mem_cons.mpr ⟨lw_p7, List.forall_mem_cons.mpr ⟨lw_p8, List.forall_mem_cons.mpr ⟨lw_p9, List.forall_mem_cons.mpr ⟨lw_p10, List.forall_mem_cons.mpr ⟨lw_p11, List.forall_mem_cons.mpr ⟨lw_p12, List.forall_mem_cons.mpr ⟨lw_p13, List.forall_mem_cons.mpr ⟨lw_p14, List.forall_mem_cons.mpr ⟨lw_p15, fun _ h => absurd h List.not_mem_nil⟩⟩⟩⟩⟩⟩⟩⟩⟩⟩⟩⟩⟩⟩⟩⟩
theorem lw_p16 : lw_okq (⟨"SparseKernelsModel", "cell", "(III)I"⟩, 2) := ⟨⟨by decide +kernel, by decide +kernel⟩, lw_t1 (List.mem_of_getElem? (i := 153) rfl), lw_t1 (List.mem_of_getElem? (i := 202) rfl), lw_t1 (List.mem_of_getElem? (i := 203) rfl)⟩
def lw_privs_2 : List (MethodName × Nat) := [(⟨"SparseKernelsModel", "cell", "(III)I"⟩, 2)]
theorem lw_r2 : ∀ q ∈ lw_privs_2, lw_okq q := List.forall_mem_cons.mpr ⟨lw_p16, fun _ h => absurd h List.not_mem_nil⟩
def lw_privs : List (MethodName × Nat) := lw_privs_1 ++ (lw_privs_2)
def lw_tbl : List Cond := k2_sels lw_privs ++ tables_1
theorem lw_privs_ok : ∀ q ∈ lw_privs, lw_okq q := by
  show ∀ q ∈ lw_privs_1 ++ (lw_privs_2), lw_okq q
  exact List.forall_mem_append.mpr ⟨lw_r1, lw_r2⟩
-- ===== ONE list of words for every method: the tables' words that hold all through a run =====
def lw_all : List Cond := lw_tbl.filter goodWord
/-- a word of the tables by its place: claim/WORDS.tsv -/
theorem lw_w {w : Cond} (i : Nat) (h : lw_tbl[i]? = some w) (g : goodWord w = true) : w ∈ lw_all := List.mem_filter.mpr ⟨List.mem_of_getElem? h, g⟩
theorem lw_all_tbl {w : Cond} (h : w ∈ lw_all) : w ∈ lw_tbl := (List.mem_filter.mp h).1
theorem lw_self : GoodIn lw_all lw_all := fun w h => ⟨h, good_of_word (List.mem_filter.mp h).2⟩
/-- a class's field words, by their places -/
theorem lw_in (ws : List Cond) (ps : List Nat) (hp : ws = ps.filterMap (fun i => lw_tbl[i]?)) (hg : ws.all goodWord = true) : ∀ w ∈ ws, w ∈ lw_all := by
  intro w h
  have h1 := List.all_eq_true.mp hg w h
  rw [hp] at h
  obtain ⟨i, -, hi⟩ := List.mem_filterMap.mp h
  exact lw_w i hi h1
/-- the words of a contract for the method y with code b, L locals, answer r -/
abbrev ws_ (y : MethodName) (b : ByteArray) (L : Nat) (r : Option FieldType) : List Cond := Cond.code y b L r :: lw_all
theorem lw_meth {y : MethodName} {b : ByteArray} {L : Nat} {r : Option FieldType} (h : Cond.code y b L r ∈ lw_all) : GoodIn lw_all (ws_ y b L r) := by
  intro w hw
  rcases List.mem_cons.mp hw with e | e
  · rw [e]
    exact lw_self _ h
  · exact lw_self _ e
theorem lw_app {a c : List Cond} (ha : ∀ w ∈ a, w ∈ lw_all) (hc : GoodIn lw_all c) : GoodIn lw_all (a ++ c) := by
  intro w hw
  rcases List.mem_append.mp hw with e | e
  · exact lw_self w (ha w e)
  · exact hc w e
/-- what a call through an object asks: cwV n hts (lw_V ..) -/
theorem lw_V {own : String} {idx : Nat} {C : String} {y : MethodName} {b : ByteArray} {L : Nat} {r : Option FieldType} (h1 : Cond.methodLink own idx y ∈ lw_all) (h2 : Cond.instanceMethod y ∈ lw_all) (h3 : Cond.selects C y y ∈ lw_all) (h4 : Cond.initialized C ∈ lw_all) (h5 : Cond.code y b L r ∈ lw_all) : GoodIn lw_all (wsV own idx C y (ws_ y b L r)) := by
  refine lw_app ?_ (lw_meth h5)
  intro w hw
  simp only [List.mem_cons, List.not_mem_nil, or_false] at hw
  rcases hw with e | e | e | e
  · rw [e]; exact h1
  · rw [e]; exact h2
  · rw [e]; exact h3
  · rw [e]; exact h4
/-- what a static call asks: va_cwS n hts (lw_S ..) -/
theorem lw_S {own : String} {idx : Nat} {y : MethodName} {b : ByteArray} {L : Nat} {r : Option FieldType} (h1 : Cond.methodLink own idx y ∈ lw_all) (h2 : Cond.static y ∈ lw_all) (h3 : Cond.initialized y.cls ∈ lw_all) (h4 : Cond.code y b L r ∈ lw_all) : GoodIn lw_all (va_wsS own idx y (ws_ y b L r)) := by
  refine lw_app ?_ (lw_meth h4)
  intro w hw
  simp only [List.mem_cons, List.not_mem_nil, or_false] at hw
  rcases hw with e | e | e
  · rw [e]; exact h1
  · rw [e]; exact h2
  · rw [e]; exact h3
/-- the words of a contract for a method WITH HANDLERS (hh: its table) -/
abbrev wsW_ (y : MethodName) (b : ByteArray) (L : Nat) (r : Option FieldType) (hh : List (Nat × Nat × Nat × Nat)) : List Cond := Cond.codeWith y b L r hh :: lw_all
theorem lw_methW {y : MethodName} {b : ByteArray} {L : Nat} {r : Option FieldType} {hh : List (Nat × Nat × Nat × Nat)} (h : Cond.codeWith y b L r hh ∈ lw_all) : GoodIn lw_all (wsW_ y b L r hh) := by
  intro w hw
  rcases List.mem_cons.mp hw with e | e
  · rw [e]
    exact lw_self _ h
  · exact lw_self _ e
/-- any list of words by their places (lw_in), good -/
theorem lw_good {ws : List Cond} (h : ∀ w ∈ ws, w ∈ lw_all) : GoodIn lw_all ws := fun w hw => lw_self w (h w hw)
/-- what a call of a method with handlers asks: vx_cwVW n hts (lw_VW ..), vx_cwSW n hts (lw_SW ..) -/
theorem lw_VW {own : String} {idx : Nat} {C : String} {y : MethodName} {b : ByteArray} {L : Nat} {r : Option FieldType} {hh : List (Nat × Nat × Nat × Nat)} (h1 : Cond.methodLink own idx y ∈ lw_all) (h2 : Cond.instanceMethod y ∈ lw_all) (h3 : Cond.selects C y y ∈ lw_all) (h4 : Cond.initialized C ∈ lw_all) (h5 : Cond.codeWith y b L r hh ∈ lw_all) : GoodIn lw_all (wsV own idx C y (wsW_ y b L r hh)) := by
  refine lw_app ?_ (lw_methW h5)
  intro w hw
  simp only [List.mem_cons, List.not_mem_nil, or_false] at hw
  rcases hw with e | e | e | e
  · rw [e]; exact h1
  · rw [e]; exact h2
  · rw [e]; exact h3
  · rw [e]; exact h4
theorem lw_SW {own : String} {idx : Nat} {y : MethodName} {b : ByteArray} {L : Nat} {r : Option FieldType} {hh : List (Nat × Nat × Nat × Nat)} (h1 : Cond.methodLink own idx y ∈ lw_all) (h2 : Cond.static y ∈ lw_all) (h3 : Cond.initialized y.cls ∈ lw_all) (h4 : Cond.codeWith y b L r hh ∈ lw_all) : GoodIn lw_all (va_wsS own idx y (wsW_ y b L r hh)) := by
  refine lw_app ?_ (lw_methW h4)
  intro w hw
  simp only [List.mem_cons, List.not_mem_nil, or_false] at hw
  rcases hw with e | e | e
  · rw [e]; exact h1
  · rw [e]; exact h2
  · rw [e]; exact h3
/-- a word by its place in its run of the tables -/
theorem lw_at {r : List Cond} (hr : ∀ w ∈ r, w ∈ lw_tbl) {w : Cond} (i : Nat) (h : r[i]? = some w) : w ∈ lw_tbl := hr w (List.mem_of_getElem? h)
theorem lw_g {w : Cond} (h : w ∈ lw_tbl) (g : goodWord w = true) : w ∈ lw_all := List.mem_filter.mpr ⟨h, g⟩
theorem lw_ms : ∀ w ∈ k2_sels lw_privs, w ∈ lw_tbl := fun w h => show w ∈ k2_sels lw_privs ++ tables_1 from List.mem_append_left _ h
theorem lw_m1 : ∀ w ∈ tables_1_1, w ∈ lw_tbl := fun w h => show w ∈ k2_sels lw_privs ++ tables_1 from List.mem_append_right (k2_sels lw_privs) (show w ∈ tables_1 from List.mem_append_left _ h)
theorem lw_m2 : ∀ w ∈ tables_1_2, w ∈ lw_tbl := fun w h => show w ∈ k2_sels lw_privs ++ tables_1 from List.mem_append_right (k2_sels lw_privs) (show w ∈ tables_1 from List.mem_append_right _ h)
theorem qs0 : (Cond.selects "SparseKernels" ⟨"SparseKernels", "begin", "()V"⟩ ⟨"SparseKernels", "begin", "()V"⟩) ∈ lw_all := lw_g (lw_at lw_ms 0 rfl) rfl
theorem qs1 : (Cond.selects "SparseKernels" ⟨"SparseKernels", "clearWork", "()V"⟩ ⟨"SparseKernels", "clearWork", "()V"⟩) ∈ lw_all := lw_g (lw_at lw_ms 1 rfl) rfl
theorem qs2 : (Cond.selects "SparseKernels" ⟨"SparseKernels", "from", "(II)I"⟩ ⟨"SparseKernels", "from", "(II)I"⟩) ∈ lw_all := lw_g (lw_at lw_ms 2 rfl) rfl
theorem qs3 : (Cond.selects "SparseKernels" ⟨"SparseKernels", "upTo", "(II)I"⟩ ⟨"SparseKernels", "upTo", "(II)I"⟩) ∈ lw_all := lw_g (lw_at lw_ms 3 rfl) rfl
theorem qs4 : (Cond.selects "SparseKernels" ⟨"SparseKernels", "emitWork", "()V"⟩ ⟨"SparseKernels", "emitWork", "()V"⟩) ∈ lw_all := lw_g (lw_at lw_ms 4 rfl) rfl
theorem qs5 : (Cond.selects "SparseKernels" ⟨"SparseKernels", "emit", "(II)V"⟩ ⟨"SparseKernels", "emit", "(II)V"⟩) ∈ lw_all := lw_g (lw_at lw_ms 5 rfl) rfl
theorem qs6 : (Cond.selects "SparseKernels" ⟨"SparseKernels", "endRow", "(I)V"⟩ ⟨"SparseKernels", "endRow", "(I)V"⟩) ∈ lw_all := lw_g (lw_at lw_ms 6 rfl) rfl
theorem qs7 : (Cond.selects "SparseKernels" ⟨"SparseKernels", "store", "(I)I"⟩ ⟨"SparseKernels", "store", "(I)I"⟩) ∈ lw_all := lw_g (lw_at lw_ms 7 rfl) rfl
theorem qs8 : (Cond.selects "SparseKernels" ⟨"SparseKernels", "mergeRow", "(III)V"⟩ ⟨"SparseKernels", "mergeRow", "(III)V"⟩) ∈ lw_all := lw_g (lw_at lw_ms 8 rfl) rfl
theorem qs9 : (Cond.selects "SparseKernels" ⟨"SparseKernels", "crossRow", "(III)V"⟩ ⟨"SparseKernels", "crossRow", "(III)V"⟩) ∈ lw_all := lw_g (lw_at lw_ms 9 rfl) rfl
theorem qs10 : (Cond.selects "SparseKernels" ⟨"SparseKernels", "productRow", "(III)V"⟩ ⟨"SparseKernels", "productRow", "(III)V"⟩) ∈ lw_all := lw_g (lw_at lw_ms 10 rfl) rfl
theorem qs11 : (Cond.selects "SparseKernels" ⟨"SparseKernels", "find", "(III)I"⟩ ⟨"SparseKernels", "find", "(III)I"⟩) ∈ lw_all := lw_g (lw_at lw_ms 11 rfl) rfl
theorem qs12 : (Cond.selects "SparseKernelsModel" ⟨"SparseKernelsModel", "slot", "(I)Z"⟩ ⟨"SparseKernelsModel", "slot", "(I)Z"⟩) ∈ lw_all := lw_g (lw_at lw_ms 12 rfl) rfl
theorem qs13 : (Cond.selects "SparseKernelsModel" ⟨"SparseKernelsModel", "line", "(I)Z"⟩ ⟨"SparseKernelsModel", "line", "(I)Z"⟩) ∈ lw_all := lw_g (lw_at lw_ms 13 rfl) rfl
theorem qs14 : (Cond.selects "SparseKernelsModel" ⟨"SparseKernelsModel", "keep", "(I)I"⟩ ⟨"SparseKernelsModel", "keep", "(I)I"⟩) ∈ lw_all := lw_g (lw_at lw_ms 14 rfl) rfl
theorem qs15 : (Cond.selects "SparseKernelsModel" ⟨"SparseKernelsModel", "entry", "(IIII)I"⟩ ⟨"SparseKernelsModel", "entry", "(IIII)I"⟩) ∈ lw_all := lw_g (lw_at lw_ms 15 rfl) rfl
theorem qs16 : (Cond.selects "SparseKernelsModel" ⟨"SparseKernelsModel", "cell", "(III)I"⟩ ⟨"SparseKernelsModel", "cell", "(III)I"⟩) ∈ lw_all := lw_g (lw_at lw_ms 16 rfl) rfl
end
section
set_option maxRecDepth 100000
/-! SparseKernels -/
def RX0 : String := "SparseKernels"
def TX0 : u_T := fun k => match k with
  | 0 => ("SparseKernels", "starts", "[B", true)
  | 1 => ("SparseKernels", "columns", "[B", true)
  | 2 => ("SparseKernels", "values", "[I", true)
  | 3 => ("SparseKernels", "newStarts", "[B", true)
  | 4 => ("SparseKernels", "newColumns", "[B", true)
  | 5 => ("SparseKernels", "newValues", "[I", true)
  | 6 => ("SparseKernels", "made", "I", false)
  | _ => ("SparseKernels", "work", "[I", true)
def tyX0 : Nat → FieldType := fun k => match k with
  | 0 => .array .byte
  | 1 => .array .byte
  | 2 => .array .int
  | 3 => .array .byte
  | 4 => .array .byte
  | 5 => .array .int
  | 6 => .int
  | _ => .array .int
abbrev wsX00 : List Cond := u_ws RX0 TX0 8
theorem nmX0 : ∀ a, a < 8 → ∀ b, b < 8 → a ≠ b → (TX0 a).2.1 ≠ (TX0 b).2.1 := by decide +kernel
theorem tyX0_ok : ∀ k, k < 8 → parseFieldDescriptor (TX0 k).2.2.1 = some (tyX0 k) := by decide +kernel
abbrev cX0_init : ByteArray := prog_1_method_1_code
def yX0_init : MethodName := ⟨RX0, "<init>", "()V"⟩
abbrev cX0_put : ByteArray := prog_1_method_12_code
def yX0_put : MethodName := ⟨RX0, "put", "(IIII)Z"⟩
abbrev cX0_isSlot : ByteArray := prog_1_method_2_code
def yX0_isSlot : MethodName := ⟨RX0, "isSlot", "(I)Z"⟩
abbrev cX0_isIndex : ByteArray := prog_1_method_3_code
def yX0_isIndex : MethodName := ⟨RX0, "isIndex", "(I)Z"⟩
abbrev cX0_begin : ByteArray := prog_1_method_6_code
def yX0_begin : MethodName := ⟨RX0, "begin", "()V"⟩
abbrev cX0_clearWork : ByteArray := prog_1_method_10_code
def yX0_clearWork : MethodName := ⟨RX0, "clearWork", "()V"⟩
abbrev cX0_from : ByteArray := prog_1_method_4_code
def yX0_from : MethodName := ⟨RX0, "from", "(II)I"⟩
abbrev cX0_upTo : ByteArray := prog_1_method_5_code
def yX0_upTo : MethodName := ⟨RX0, "upTo", "(II)I"⟩
abbrev cX0_emitWork : ByteArray := prog_1_method_11_code
def yX0_emitWork : MethodName := ⟨RX0, "emitWork", "()V"⟩
abbrev cX0_emit : ByteArray := prog_1_method_7_code
def yX0_emit : MethodName := ⟨RX0, "emit", "(II)V"⟩
abbrev cX0_endRow : ByteArray := prog_1_method_8_code
def yX0_endRow : MethodName := ⟨RX0, "endRow", "(I)V"⟩
abbrev cX0_store : ByteArray := prog_1_method_9_code
def yX0_store : MethodName := ⟨RX0, "store", "(I)I"⟩
abbrev cX0_add : ByteArray := prog_1_method_13_code
def yX0_add : MethodName := ⟨RX0, "add", "(III)I"⟩
abbrev cX0_mergeRow : ByteArray := prog_1_method_14_code
def yX0_mergeRow : MethodName := ⟨RX0, "mergeRow", "(III)V"⟩
abbrev cX0_entrywise : ByteArray := prog_1_method_15_code
def yX0_entrywise : MethodName := ⟨RX0, "entrywise", "(III)I"⟩
abbrev cX0_crossRow : ByteArray := prog_1_method_16_code
def yX0_crossRow : MethodName := ⟨RX0, "crossRow", "(III)V"⟩
abbrev cX0_product : ByteArray := prog_1_method_18_code
def yX0_product : MethodName := ⟨RX0, "product", "(III)I"⟩
abbrev cX0_productRow : ByteArray := prog_1_method_17_code
def yX0_productRow : MethodName := ⟨RX0, "productRow", "(III)V"⟩
abbrev cX0_masked : ByteArray := prog_1_method_19_code
def yX0_masked : MethodName := ⟨RX0, "masked", "(II)I"⟩
abbrev cX0_transpose : ByteArray := prog_1_method_20_code
def yX0_transpose : MethodName := ⟨RX0, "transpose", "(II)I"⟩
abbrev cX0_find : ByteArray := prog_1_method_23_code
def yX0_find : MethodName := ⟨RX0, "find", "(III)I"⟩
abbrev cX0_scale : ByteArray := prog_1_method_21_code
def yX0_scale : MethodName := ⟨RX0, "scale", "(III)I"⟩
abbrev cX0_select : ByteArray := prog_1_method_22_code
def yX0_select : MethodName := ⟨RX0, "select", "(III)I"⟩
abbrev cX0_at : ByteArray := prog_1_method_24_code
def yX0_at : MethodName := ⟨RX0, "at", "(III)I"⟩
abbrev cX0_count : ByteArray := prog_1_method_25_code
def yX0_count : MethodName := ⟨RX0, "count", "(I)I"⟩
abbrev cX0_next : ByteArray := prog_1_method_26_code
def yX0_next : MethodName := ⟨RX0, "next", "(III)I"⟩
abbrev cX0_rowsProduct : ByteArray := prog_1_method_27_code
def yX0_rowsProduct : MethodName := ⟨RX0, "rowsProduct", "(IIII)I"⟩
abbrev cX0_sum : ByteArray := prog_1_method_28_code
def yX0_sum : MethodName := ⟨RX0, "sum", "(III)I"⟩
abbrev cX0_same : ByteArray := prog_1_method_29_code
def yX0_same : MethodName := ⟨RX0, "same", "(II)Z"⟩
abbrev cX0_symmetric : ByteArray := prog_1_method_30_code
def yX0_symmetric : MethodName := ⟨RX0, "symmetric", "(I)Z"⟩

/-! SparseKernelsModel -/
def RX1 : String := "SparseKernelsModel"
def TX1 : u_T := fun k => match k with
  | 0 => ("SparseKernelsModel", "all", "[I", false)
  | _ => ("SparseKernelsModel", "made", "[I", false)
def tyX1 : Nat → FieldType := fun k => match k with
  | 0 => .array .int
  | _ => .array .int
abbrev wsX10 : List Cond := u_ws RX1 TX1 2
theorem nmX1 : ∀ a, a < 2 → ∀ b, b < 2 → a ≠ b → (TX1 a).2.1 ≠ (TX1 b).2.1 := by decide +kernel
theorem tyX1_ok : ∀ k, k < 2 → parseFieldDescriptor (TX1 k).2.2.1 = some (tyX1 k) := by decide +kernel
abbrev cX1_init : ByteArray := prog_3_method_1_code
def yX1_init : MethodName := ⟨RX1, "<init>", "()V"⟩
abbrev cX1_put : ByteArray := prog_3_method_5_code
def yX1_put : MethodName := ⟨RX1, "put", "(IIII)Z"⟩
abbrev cX1_slot : ByteArray := prog_3_method_2_code
def yX1_slot : MethodName := ⟨RX1, "slot", "(I)Z"⟩
abbrev cX1_line : ByteArray := prog_3_method_3_code
def yX1_line : MethodName := ⟨RX1, "line", "(I)Z"⟩
abbrev cX1_add : ByteArray := prog_3_method_7_code
def yX1_add : MethodName := ⟨RX1, "add", "(III)I"⟩
abbrev cX1_keep : ByteArray := prog_3_method_6_code
def yX1_keep : MethodName := ⟨RX1, "keep", "(I)I"⟩
abbrev cX1_count : ByteArray := prog_3_method_16_code
def yX1_count : MethodName := ⟨RX1, "count", "(I)I"⟩
abbrev cX1_entrywise : ByteArray := prog_3_method_8_code
def yX1_entrywise : MethodName := ⟨RX1, "entrywise", "(III)I"⟩
abbrev cX1_product : ByteArray := prog_3_method_10_code
def yX1_product : MethodName := ⟨RX1, "product", "(III)I"⟩
abbrev cX1_entry : ByteArray := prog_3_method_9_code
def yX1_entry : MethodName := ⟨RX1, "entry", "(IIII)I"⟩
abbrev cX1_cell : ByteArray := prog_3_method_4_code
def yX1_cell : MethodName := ⟨RX1, "cell", "(III)I"⟩
abbrev cX1_masked : ByteArray := prog_3_method_11_code
def yX1_masked : MethodName := ⟨RX1, "masked", "(II)I"⟩
abbrev cX1_transpose : ByteArray := prog_3_method_12_code
def yX1_transpose : MethodName := ⟨RX1, "transpose", "(II)I"⟩
abbrev cX1_scale : ByteArray := prog_3_method_13_code
def yX1_scale : MethodName := ⟨RX1, "scale", "(III)I"⟩
abbrev cX1_select : ByteArray := prog_3_method_14_code
def yX1_select : MethodName := ⟨RX1, "select", "(III)I"⟩
abbrev cX1_at : ByteArray := prog_3_method_15_code
def yX1_at : MethodName := ⟨RX1, "at", "(III)I"⟩
abbrev cX1_next : ByteArray := prog_3_method_17_code
def yX1_next : MethodName := ⟨RX1, "next", "(III)I"⟩
abbrev cX1_rowsProduct : ByteArray := prog_3_method_18_code
def yX1_rowsProduct : MethodName := ⟨RX1, "rowsProduct", "(IIII)I"⟩
abbrev cX1_sum : ByteArray := prog_3_method_19_code
def yX1_sum : MethodName := ⟨RX1, "sum", "(III)I"⟩
abbrev cX1_same : ByteArray := prog_3_method_20_code
def yX1_same : MethodName := ⟨RX1, "same", "(II)Z"⟩
abbrev cX1_symmetric : ByteArray := prog_3_method_21_code
def yX1_symmetric : MethodName := ⟨RX1, "symmetric", "(I)Z"⟩

/-! the law's own entry -/
abbrev cL_law : ByteArray := code

/-! java/lang/Object -/
def RJ0 : String := "java/lang/Object"
abbrev cJ0_init : ByteArray := object_method_1_code
def yJ0_init : MethodName := ⟨RJ0, "<init>", "()V"⟩



theorem q26 : (Jvm.Cond.instanceMethod ({ cls := "java/lang/Object", name := "<init>", desc := "()V" } : Jvm.MethodName)) ∈ lw_all := lw_g (lw_at lw_m1 9 rfl) rfl
theorem q27 : (Jvm.Cond.code ({ cls := "java/lang/Object", name := "<init>", desc := "()V" } : Jvm.MethodName) object_method_1_code (1 : Nat) (Option.none : Option Jvm.ClassFile.FieldType)) ∈ lw_all := lw_g (lw_at lw_m1 10 rfl) rfl
theorem dJ0_init_0 : decode cJ0_init 0 = .ok (.return_, 1) := by decide +kernel
theorem q18 : (Jvm.Cond.initialized "SparseKernels") ∈ lw_all := lw_g (lw_at lw_m1 1 rfl) rfl
theorem q21 : (Jvm.Cond.instantiable "SparseKernels" (8 : Nat)) ∈ lw_all := lw_g (lw_at lw_m1 4 rfl) rfl
theorem q23 : (Jvm.Cond.instanceMethod ({ cls := "SparseKernels", name := "<init>", desc := "()V" } : Jvm.MethodName)) ∈ lw_all := lw_g (lw_at lw_m1 6 rfl) rfl
theorem q24 : (Jvm.Cond.code ({ cls := "SparseKernels", name := "<init>", desc := "()V" } : Jvm.MethodName) prog_1_method_1_code (1 : Nat) (Option.none : Option Jvm.ClassFile.FieldType)) ∈ lw_all := lw_g (lw_at lw_m1 7 rfl) rfl
theorem q25 : (Jvm.Cond.methodLink "SparseKernels" (1 : Nat) ({ cls := "java/lang/Object", name := "<init>", desc := "()V" } : Jvm.MethodName)) ∈ lw_all := lw_g (lw_at lw_m1 8 rfl) rfl
theorem q28 : (Jvm.Cond.fieldLink "SparseKernels" (7 : Nat) "SparseKernels" "starts" "[B") ∈ lw_all := lw_g (lw_at lw_m1 11 rfl) rfl
theorem q29 : (Jvm.Cond.fieldLink "SparseKernels" (13 : Nat) "SparseKernels" "columns" "[B") ∈ lw_all := lw_g (lw_at lw_m1 12 rfl) rfl
theorem q30 : (Jvm.Cond.fieldLink "SparseKernels" (16 : Nat) "SparseKernels" "values" "[I") ∈ lw_all := lw_g (lw_at lw_m1 13 rfl) rfl
theorem q31 : (Jvm.Cond.fieldLink "SparseKernels" (20 : Nat) "SparseKernels" "newStarts" "[B") ∈ lw_all := lw_g (lw_at lw_m1 14 rfl) rfl
theorem q32 : (Jvm.Cond.fieldLink "SparseKernels" (23 : Nat) "SparseKernels" "newColumns" "[B") ∈ lw_all := lw_g (lw_at lw_m1 15 rfl) rfl
theorem q33 : (Jvm.Cond.fieldLink "SparseKernels" (26 : Nat) "SparseKernels" "newValues" "[I") ∈ lw_all := lw_g (lw_at lw_m1 16 rfl) rfl
theorem q34 : (Jvm.Cond.fieldLink "SparseKernels" (32 : Nat) "SparseKernels" "made" "I") ∈ lw_all := lw_g (lw_at lw_m1 17 rfl) rfl
theorem q35 : (Jvm.Cond.fieldLink "SparseKernels" (29 : Nat) "SparseKernels" "work" "[I") ∈ lw_all := lw_g (lw_at lw_m1 18 rfl) rfl
theorem q36 : (Jvm.Cond.laysFinal "SparseKernels" "SparseKernels" "starts" "[B") ∈ lw_all := lw_g (lw_at lw_m1 19 rfl) rfl
theorem q37 : (Jvm.Cond.soleField "SparseKernels" "starts") ∈ lw_all := lw_g (lw_at lw_m1 20 rfl) rfl
theorem q38 : (Jvm.Cond.laysFinal "SparseKernels" "SparseKernels" "columns" "[B") ∈ lw_all := lw_g (lw_at lw_m1 21 rfl) rfl
theorem q39 : (Jvm.Cond.soleField "SparseKernels" "columns") ∈ lw_all := lw_g (lw_at lw_m1 22 rfl) rfl
theorem q40 : (Jvm.Cond.laysFinal "SparseKernels" "SparseKernels" "values" "[I") ∈ lw_all := lw_g (lw_at lw_m1 23 rfl) rfl
theorem q41 : (Jvm.Cond.soleField "SparseKernels" "values") ∈ lw_all := lw_g (lw_at lw_m1 24 rfl) rfl
theorem q42 : (Jvm.Cond.laysFinal "SparseKernels" "SparseKernels" "newStarts" "[B") ∈ lw_all := lw_g (lw_at lw_m1 25 rfl) rfl
theorem q43 : (Jvm.Cond.soleField "SparseKernels" "newStarts") ∈ lw_all := lw_g (lw_at lw_m1 26 rfl) rfl
theorem q44 : (Jvm.Cond.laysFinal "SparseKernels" "SparseKernels" "newColumns" "[B") ∈ lw_all := lw_g (lw_at lw_m1 27 rfl) rfl
theorem q45 : (Jvm.Cond.soleField "SparseKernels" "newColumns") ∈ lw_all := lw_g (lw_at lw_m1 28 rfl) rfl
theorem q46 : (Jvm.Cond.laysFinal "SparseKernels" "SparseKernels" "newValues" "[I") ∈ lw_all := lw_g (lw_at lw_m1 29 rfl) rfl
theorem q47 : (Jvm.Cond.soleField "SparseKernels" "newValues") ∈ lw_all := lw_g (lw_at lw_m1 30 rfl) rfl
theorem q48 : (Jvm.Cond.lays "SparseKernels" "SparseKernels" "made" "I") ∈ lw_all := lw_g (lw_at lw_m1 31 rfl) rfl
theorem q49 : (Jvm.Cond.soleField "SparseKernels" "made") ∈ lw_all := lw_g (lw_at lw_m1 32 rfl) rfl
theorem q50 : (Jvm.Cond.laysFinal "SparseKernels" "SparseKernels" "work" "[I") ∈ lw_all := lw_g (lw_at lw_m1 33 rfl) rfl
theorem q51 : (Jvm.Cond.soleField "SparseKernels" "work") ∈ lw_all := lw_g (lw_at lw_m1 34 rfl) rfl
theorem q52 : (Jvm.Cond.superclass "SparseKernels" "java/lang/Object") ∈ lw_all := lw_g (lw_at lw_m1 35 rfl) rfl
theorem q56 : (Jvm.Cond.instanceMethod ({ cls := "SparseKernels", name := "put", desc := "(IIII)Z" } : Jvm.MethodName)) ∈ lw_all := lw_g (lw_at lw_m1 39 rfl) rfl
theorem q57 : (Jvm.Cond.selects "SparseKernels" ({ cls := "SparseKernels", name := "put", desc := "(IIII)Z" } : Jvm.MethodName) ({ cls := "SparseKernels", name := "put", desc := "(IIII)Z" } : Jvm.MethodName)) ∈ lw_all := lw_g (lw_at lw_m1 40 rfl) rfl
theorem q58 : (Jvm.Cond.code ({ cls := "SparseKernels", name := "put", desc := "(IIII)Z" } : Jvm.MethodName) prog_1_method_12_code (7 : Nat) (Option.some Jvm.ClassFile.FieldType.boolean)) ∈ lw_all := lw_g (lw_at lw_m1 41 rfl) rfl
theorem q59 : (Jvm.Cond.methodLink "SparseKernels" (40 : Nat) ({ cls := "SparseKernels", name := "isSlot", desc := "(I)Z" } : Jvm.MethodName)) ∈ lw_all := lw_g (lw_at lw_m1 42 rfl) rfl
theorem q60 : (Jvm.Cond.static ({ cls := "SparseKernels", name := "isSlot", desc := "(I)Z" } : Jvm.MethodName)) ∈ lw_all := lw_g (lw_at lw_m1 43 rfl) rfl
theorem q61 : (Jvm.Cond.code ({ cls := "SparseKernels", name := "isSlot", desc := "(I)Z" } : Jvm.MethodName) prog_1_method_2_code (1 : Nat) (Option.some Jvm.ClassFile.FieldType.boolean)) ∈ lw_all := lw_g (lw_at lw_m1 44 rfl) rfl
theorem q62 : (Jvm.Cond.methodLink "SparseKernels" (44 : Nat) ({ cls := "SparseKernels", name := "isIndex", desc := "(I)Z" } : Jvm.MethodName)) ∈ lw_all := lw_g (lw_at lw_m1 45 rfl) rfl
theorem q63 : (Jvm.Cond.static ({ cls := "SparseKernels", name := "isIndex", desc := "(I)Z" } : Jvm.MethodName)) ∈ lw_all := lw_g (lw_at lw_m1 46 rfl) rfl
theorem q64 : (Jvm.Cond.code ({ cls := "SparseKernels", name := "isIndex", desc := "(I)Z" } : Jvm.MethodName) prog_1_method_3_code (1 : Nat) (Option.some Jvm.ClassFile.FieldType.boolean)) ∈ lw_all := lw_g (lw_at lw_m1 47 rfl) rfl
theorem q65 : (Jvm.Cond.methodLink "SparseKernels" (47 : Nat) ({ cls := "SparseKernels", name := "begin", desc := "()V" } : Jvm.MethodName)) ∈ lw_all := lw_g (lw_at lw_m1 48 rfl) rfl
theorem q66 : (Jvm.Cond.privateMethod ({ cls := "SparseKernels", name := "begin", desc := "()V" } : Jvm.MethodName)) ∈ lw_tbl := lw_at lw_m1 49 rfl
theorem q67 : (Jvm.Cond.instanceMethod ({ cls := "SparseKernels", name := "begin", desc := "()V" } : Jvm.MethodName)) ∈ lw_all := lw_g (lw_at lw_m1 50 rfl) rfl
theorem q68 : (Jvm.Cond.code ({ cls := "SparseKernels", name := "begin", desc := "()V" } : Jvm.MethodName) prog_1_method_6_code (1 : Nat) (Option.none : Option Jvm.ClassFile.FieldType)) ∈ lw_all := lw_g (lw_at lw_m1 51 rfl) rfl
theorem q69 : (Jvm.Cond.methodLink "SparseKernels" (50 : Nat) ({ cls := "SparseKernels", name := "clearWork", desc := "()V" } : Jvm.MethodName)) ∈ lw_all := lw_g (lw_at lw_m1 52 rfl) rfl
theorem q70 : (Jvm.Cond.privateMethod ({ cls := "SparseKernels", name := "clearWork", desc := "()V" } : Jvm.MethodName)) ∈ lw_tbl := lw_at lw_m1 53 rfl
theorem q71 : (Jvm.Cond.instanceMethod ({ cls := "SparseKernels", name := "clearWork", desc := "()V" } : Jvm.MethodName)) ∈ lw_all := lw_g (lw_at lw_m1 54 rfl) rfl
theorem q72 : (Jvm.Cond.code ({ cls := "SparseKernels", name := "clearWork", desc := "()V" } : Jvm.MethodName) prog_1_method_10_code (2 : Nat) (Option.none : Option Jvm.ClassFile.FieldType)) ∈ lw_all := lw_g (lw_at lw_m1 55 rfl) rfl
theorem q73 : (Jvm.Cond.methodLink "SparseKernels" (53 : Nat) ({ cls := "SparseKernels", name := "from", desc := "(II)I" } : Jvm.MethodName)) ∈ lw_all := lw_g (lw_at lw_m1 56 rfl) rfl
theorem q74 : (Jvm.Cond.privateMethod ({ cls := "SparseKernels", name := "from", desc := "(II)I" } : Jvm.MethodName)) ∈ lw_tbl := lw_at lw_m1 57 rfl
theorem q75 : (Jvm.Cond.instanceMethod ({ cls := "SparseKernels", name := "from", desc := "(II)I" } : Jvm.MethodName)) ∈ lw_all := lw_g (lw_at lw_m1 58 rfl) rfl
theorem q76 : (Jvm.Cond.code ({ cls := "SparseKernels", name := "from", desc := "(II)I" } : Jvm.MethodName) prog_1_method_4_code (3 : Nat) (Option.some Jvm.ClassFile.FieldType.int)) ∈ lw_all := lw_g (lw_at lw_m1 59 rfl) rfl
theorem q77 : (Jvm.Cond.methodLink "SparseKernels" (57 : Nat) ({ cls := "SparseKernels", name := "upTo", desc := "(II)I" } : Jvm.MethodName)) ∈ lw_all := lw_g (lw_at lw_m1 60 rfl) rfl
theorem q78 : (Jvm.Cond.privateMethod ({ cls := "SparseKernels", name := "upTo", desc := "(II)I" } : Jvm.MethodName)) ∈ lw_tbl := lw_at lw_m1 61 rfl
theorem q79 : (Jvm.Cond.instanceMethod ({ cls := "SparseKernels", name := "upTo", desc := "(II)I" } : Jvm.MethodName)) ∈ lw_all := lw_g (lw_at lw_m1 62 rfl) rfl
theorem q80 : (Jvm.Cond.code ({ cls := "SparseKernels", name := "upTo", desc := "(II)I" } : Jvm.MethodName) prog_1_method_5_code (3 : Nat) (Option.some Jvm.ClassFile.FieldType.int)) ∈ lw_all := lw_g (lw_at lw_m1 63 rfl) rfl
theorem q81 : (Jvm.Cond.methodLink "SparseKernels" (60 : Nat) ({ cls := "SparseKernels", name := "emitWork", desc := "()V" } : Jvm.MethodName)) ∈ lw_all := lw_g (lw_at lw_m1 64 rfl) rfl
theorem q82 : (Jvm.Cond.privateMethod ({ cls := "SparseKernels", name := "emitWork", desc := "()V" } : Jvm.MethodName)) ∈ lw_tbl := lw_at lw_m1 65 rfl
theorem q83 : (Jvm.Cond.instanceMethod ({ cls := "SparseKernels", name := "emitWork", desc := "()V" } : Jvm.MethodName)) ∈ lw_all := lw_g (lw_at lw_m1 66 rfl) rfl
theorem q84 : (Jvm.Cond.code ({ cls := "SparseKernels", name := "emitWork", desc := "()V" } : Jvm.MethodName) prog_1_method_11_code (2 : Nat) (Option.none : Option Jvm.ClassFile.FieldType)) ∈ lw_all := lw_g (lw_at lw_m1 67 rfl) rfl
theorem q85 : (Jvm.Cond.methodLink "SparseKernels" (36 : Nat) ({ cls := "SparseKernels", name := "emit", desc := "(II)V" } : Jvm.MethodName)) ∈ lw_all := lw_g (lw_at lw_m1 68 rfl) rfl
theorem q86 : (Jvm.Cond.privateMethod ({ cls := "SparseKernels", name := "emit", desc := "(II)V" } : Jvm.MethodName)) ∈ lw_tbl := lw_at lw_m1 69 rfl
theorem q87 : (Jvm.Cond.instanceMethod ({ cls := "SparseKernels", name := "emit", desc := "(II)V" } : Jvm.MethodName)) ∈ lw_all := lw_g (lw_at lw_m1 70 rfl) rfl
theorem q88 : (Jvm.Cond.code ({ cls := "SparseKernels", name := "emit", desc := "(II)V" } : Jvm.MethodName) prog_1_method_7_code (3 : Nat) (Option.none : Option Jvm.ClassFile.FieldType)) ∈ lw_all := lw_g (lw_at lw_m1 71 rfl) rfl
theorem q89 : (Jvm.Cond.methodLink "SparseKernels" (63 : Nat) ({ cls := "SparseKernels", name := "endRow", desc := "(I)V" } : Jvm.MethodName)) ∈ lw_all := lw_g (lw_at lw_m1 72 rfl) rfl
theorem q90 : (Jvm.Cond.privateMethod ({ cls := "SparseKernels", name := "endRow", desc := "(I)V" } : Jvm.MethodName)) ∈ lw_tbl := lw_at lw_m1 73 rfl
theorem q91 : (Jvm.Cond.instanceMethod ({ cls := "SparseKernels", name := "endRow", desc := "(I)V" } : Jvm.MethodName)) ∈ lw_all := lw_g (lw_at lw_m1 74 rfl) rfl
theorem q92 : (Jvm.Cond.code ({ cls := "SparseKernels", name := "endRow", desc := "(I)V" } : Jvm.MethodName) prog_1_method_8_code (2 : Nat) (Option.none : Option Jvm.ClassFile.FieldType)) ∈ lw_all := lw_g (lw_at lw_m1 75 rfl) rfl
theorem q93 : (Jvm.Cond.methodLink "SparseKernels" (67 : Nat) ({ cls := "SparseKernels", name := "store", desc := "(I)I" } : Jvm.MethodName)) ∈ lw_all := lw_g (lw_at lw_m1 76 rfl) rfl
theorem q94 : (Jvm.Cond.privateMethod ({ cls := "SparseKernels", name := "store", desc := "(I)I" } : Jvm.MethodName)) ∈ lw_tbl := lw_at lw_m1 77 rfl
theorem q95 : (Jvm.Cond.instanceMethod ({ cls := "SparseKernels", name := "store", desc := "(I)I" } : Jvm.MethodName)) ∈ lw_all := lw_g (lw_at lw_m1 78 rfl) rfl
theorem q96 : (Jvm.Cond.code ({ cls := "SparseKernels", name := "store", desc := "(I)I" } : Jvm.MethodName) prog_1_method_9_code (3 : Nat) (Option.some Jvm.ClassFile.FieldType.int)) ∈ lw_all := lw_g (lw_at lw_m1 79 rfl) rfl
theorem q98 : (Jvm.Cond.instanceMethod ({ cls := "SparseKernels", name := "add", desc := "(III)I" } : Jvm.MethodName)) ∈ lw_all := lw_g (lw_at lw_m1 81 rfl) rfl
theorem q99 : (Jvm.Cond.selects "SparseKernels" ({ cls := "SparseKernels", name := "add", desc := "(III)I" } : Jvm.MethodName) ({ cls := "SparseKernels", name := "add", desc := "(III)I" } : Jvm.MethodName)) ∈ lw_all := lw_g (lw_at lw_m1 82 rfl) rfl
theorem q100 : (Jvm.Cond.code ({ cls := "SparseKernels", name := "add", desc := "(III)I" } : Jvm.MethodName) prog_1_method_13_code (5 : Nat) (Option.some Jvm.ClassFile.FieldType.int)) ∈ lw_all := lw_g (lw_at lw_m1 83 rfl) rfl
theorem q101 : (Jvm.Cond.methodLink "SparseKernels" (71 : Nat) ({ cls := "SparseKernels", name := "mergeRow", desc := "(III)V" } : Jvm.MethodName)) ∈ lw_all := lw_g (lw_at lw_m1 84 rfl) rfl
theorem q102 : (Jvm.Cond.privateMethod ({ cls := "SparseKernels", name := "mergeRow", desc := "(III)V" } : Jvm.MethodName)) ∈ lw_tbl := lw_at lw_m1 85 rfl
theorem q103 : (Jvm.Cond.instanceMethod ({ cls := "SparseKernels", name := "mergeRow", desc := "(III)V" } : Jvm.MethodName)) ∈ lw_all := lw_g (lw_at lw_m1 86 rfl) rfl
theorem q104 : (Jvm.Cond.code ({ cls := "SparseKernels", name := "mergeRow", desc := "(III)V" } : Jvm.MethodName) prog_1_method_14_code (12 : Nat) (Option.none : Option Jvm.ClassFile.FieldType)) ∈ lw_all := lw_g (lw_at lw_m1 87 rfl) rfl
theorem q106 : (Jvm.Cond.instanceMethod ({ cls := "SparseKernels", name := "entrywise", desc := "(III)I" } : Jvm.MethodName)) ∈ lw_all := lw_g (lw_at lw_m1 89 rfl) rfl
theorem q107 : (Jvm.Cond.selects "SparseKernels" ({ cls := "SparseKernels", name := "entrywise", desc := "(III)I" } : Jvm.MethodName) ({ cls := "SparseKernels", name := "entrywise", desc := "(III)I" } : Jvm.MethodName)) ∈ lw_all := lw_g (lw_at lw_m1 90 rfl) rfl
theorem q108 : (Jvm.Cond.code ({ cls := "SparseKernels", name := "entrywise", desc := "(III)I" } : Jvm.MethodName) prog_1_method_15_code (5 : Nat) (Option.some Jvm.ClassFile.FieldType.int)) ∈ lw_all := lw_g (lw_at lw_m1 91 rfl) rfl
theorem q109 : (Jvm.Cond.methodLink "SparseKernels" (75 : Nat) ({ cls := "SparseKernels", name := "crossRow", desc := "(III)V" } : Jvm.MethodName)) ∈ lw_all := lw_g (lw_at lw_m1 92 rfl) rfl
theorem q110 : (Jvm.Cond.privateMethod ({ cls := "SparseKernels", name := "crossRow", desc := "(III)V" } : Jvm.MethodName)) ∈ lw_tbl := lw_at lw_m1 93 rfl
theorem q111 : (Jvm.Cond.instanceMethod ({ cls := "SparseKernels", name := "crossRow", desc := "(III)V" } : Jvm.MethodName)) ∈ lw_all := lw_g (lw_at lw_m1 94 rfl) rfl
theorem q112 : (Jvm.Cond.code ({ cls := "SparseKernels", name := "crossRow", desc := "(III)V" } : Jvm.MethodName) prog_1_method_16_code (8 : Nat) (Option.none : Option Jvm.ClassFile.FieldType)) ∈ lw_all := lw_g (lw_at lw_m1 95 rfl) rfl
theorem q114 : (Jvm.Cond.instanceMethod ({ cls := "SparseKernels", name := "product", desc := "(III)I" } : Jvm.MethodName)) ∈ lw_all := lw_g (lw_at lw_m1 97 rfl) rfl
theorem q115 : (Jvm.Cond.selects "SparseKernels" ({ cls := "SparseKernels", name := "product", desc := "(III)I" } : Jvm.MethodName) ({ cls := "SparseKernels", name := "product", desc := "(III)I" } : Jvm.MethodName)) ∈ lw_all := lw_g (lw_at lw_m1 98 rfl) rfl
theorem q116 : (Jvm.Cond.code ({ cls := "SparseKernels", name := "product", desc := "(III)I" } : Jvm.MethodName) prog_1_method_18_code (5 : Nat) (Option.some Jvm.ClassFile.FieldType.int)) ∈ lw_all := lw_g (lw_at lw_m1 99 rfl) rfl
theorem q117 : (Jvm.Cond.methodLink "SparseKernels" (78 : Nat) ({ cls := "SparseKernels", name := "productRow", desc := "(III)V" } : Jvm.MethodName)) ∈ lw_all := lw_g (lw_at lw_m1 100 rfl) rfl
theorem q118 : (Jvm.Cond.privateMethod ({ cls := "SparseKernels", name := "productRow", desc := "(III)V" } : Jvm.MethodName)) ∈ lw_tbl := lw_at lw_m1 101 rfl
theorem q119 : (Jvm.Cond.instanceMethod ({ cls := "SparseKernels", name := "productRow", desc := "(III)V" } : Jvm.MethodName)) ∈ lw_all := lw_g (lw_at lw_m1 102 rfl) rfl
theorem q120 : (Jvm.Cond.code ({ cls := "SparseKernels", name := "productRow", desc := "(III)V" } : Jvm.MethodName) prog_1_method_17_code (7 : Nat) (Option.none : Option Jvm.ClassFile.FieldType)) ∈ lw_all := lw_g (lw_at lw_m1 103 rfl) rfl
theorem q122 : (Jvm.Cond.instanceMethod ({ cls := "SparseKernels", name := "masked", desc := "(II)I" } : Jvm.MethodName)) ∈ lw_all := lw_g (lw_at lw_m1 105 rfl) rfl
theorem q123 : (Jvm.Cond.selects "SparseKernels" ({ cls := "SparseKernels", name := "masked", desc := "(II)I" } : Jvm.MethodName) ({ cls := "SparseKernels", name := "masked", desc := "(II)I" } : Jvm.MethodName)) ∈ lw_all := lw_g (lw_at lw_m1 106 rfl) rfl
theorem q124 : (Jvm.Cond.code ({ cls := "SparseKernels", name := "masked", desc := "(II)I" } : Jvm.MethodName) prog_1_method_19_code (9 : Nat) (Option.some Jvm.ClassFile.FieldType.int)) ∈ lw_all := lw_g (lw_at lw_m1 107 rfl) rfl
theorem q126 : (Jvm.Cond.instanceMethod ({ cls := "SparseKernels", name := "transpose", desc := "(II)I" } : Jvm.MethodName)) ∈ lw_all := lw_g (lw_at lw_m1 109 rfl) rfl
theorem q127 : (Jvm.Cond.selects "SparseKernels" ({ cls := "SparseKernels", name := "transpose", desc := "(II)I" } : Jvm.MethodName) ({ cls := "SparseKernels", name := "transpose", desc := "(II)I" } : Jvm.MethodName)) ∈ lw_all := lw_g (lw_at lw_m1 110 rfl) rfl
theorem q128 : (Jvm.Cond.code ({ cls := "SparseKernels", name := "transpose", desc := "(II)I" } : Jvm.MethodName) prog_1_method_20_code (6 : Nat) (Option.some Jvm.ClassFile.FieldType.int)) ∈ lw_all := lw_g (lw_at lw_m1 111 rfl) rfl
theorem q129 : (Jvm.Cond.methodLink "SparseKernels" (81 : Nat) ({ cls := "SparseKernels", name := "find", desc := "(III)I" } : Jvm.MethodName)) ∈ lw_all := lw_g (lw_at lw_m1 112 rfl) rfl
theorem q130 : (Jvm.Cond.privateMethod ({ cls := "SparseKernels", name := "find", desc := "(III)I" } : Jvm.MethodName)) ∈ lw_tbl := lw_at lw_m1 113 rfl
theorem q131 : (Jvm.Cond.instanceMethod ({ cls := "SparseKernels", name := "find", desc := "(III)I" } : Jvm.MethodName)) ∈ lw_all := lw_g (lw_at lw_m1 114 rfl) rfl
theorem q132 : (Jvm.Cond.code ({ cls := "SparseKernels", name := "find", desc := "(III)I" } : Jvm.MethodName) prog_1_method_23_code (8 : Nat) (Option.some Jvm.ClassFile.FieldType.int)) ∈ lw_all := lw_g (lw_at lw_m1 115 rfl) rfl
theorem q134 : (Jvm.Cond.instanceMethod ({ cls := "SparseKernels", name := "scale", desc := "(III)I" } : Jvm.MethodName)) ∈ lw_all := lw_g (lw_at lw_m1 117 rfl) rfl
theorem q135 : (Jvm.Cond.selects "SparseKernels" ({ cls := "SparseKernels", name := "scale", desc := "(III)I" } : Jvm.MethodName) ({ cls := "SparseKernels", name := "scale", desc := "(III)I" } : Jvm.MethodName)) ∈ lw_all := lw_g (lw_at lw_m1 118 rfl) rfl
theorem q136 : (Jvm.Cond.code ({ cls := "SparseKernels", name := "scale", desc := "(III)I" } : Jvm.MethodName) prog_1_method_21_code (6 : Nat) (Option.some Jvm.ClassFile.FieldType.int)) ∈ lw_all := lw_g (lw_at lw_m1 119 rfl) rfl
theorem q138 : (Jvm.Cond.instanceMethod ({ cls := "SparseKernels", name := "select", desc := "(III)I" } : Jvm.MethodName)) ∈ lw_all := lw_g (lw_at lw_m1 121 rfl) rfl
theorem q139 : (Jvm.Cond.selects "SparseKernels" ({ cls := "SparseKernels", name := "select", desc := "(III)I" } : Jvm.MethodName) ({ cls := "SparseKernels", name := "select", desc := "(III)I" } : Jvm.MethodName)) ∈ lw_all := lw_g (lw_at lw_m1 122 rfl) rfl
theorem q140 : (Jvm.Cond.code ({ cls := "SparseKernels", name := "select", desc := "(III)I" } : Jvm.MethodName) prog_1_method_22_code (7 : Nat) (Option.some Jvm.ClassFile.FieldType.int)) ∈ lw_all := lw_g (lw_at lw_m1 123 rfl) rfl
theorem q142 : (Jvm.Cond.instanceMethod ({ cls := "SparseKernels", name := "at", desc := "(III)I" } : Jvm.MethodName)) ∈ lw_all := lw_g (lw_at lw_m1 125 rfl) rfl
theorem q143 : (Jvm.Cond.selects "SparseKernels" ({ cls := "SparseKernels", name := "at", desc := "(III)I" } : Jvm.MethodName) ({ cls := "SparseKernels", name := "at", desc := "(III)I" } : Jvm.MethodName)) ∈ lw_all := lw_g (lw_at lw_m1 126 rfl) rfl
theorem q144 : (Jvm.Cond.code ({ cls := "SparseKernels", name := "at", desc := "(III)I" } : Jvm.MethodName) prog_1_method_24_code (5 : Nat) (Option.some Jvm.ClassFile.FieldType.int)) ∈ lw_all := lw_g (lw_at lw_m1 127 rfl) rfl
theorem q146 : (Jvm.Cond.instanceMethod ({ cls := "SparseKernels", name := "count", desc := "(I)I" } : Jvm.MethodName)) ∈ lw_all := lw_g (lw_at lw_m1 129 rfl) rfl
theorem q147 : (Jvm.Cond.selects "SparseKernels" ({ cls := "SparseKernels", name := "count", desc := "(I)I" } : Jvm.MethodName) ({ cls := "SparseKernels", name := "count", desc := "(I)I" } : Jvm.MethodName)) ∈ lw_all := lw_g (lw_at lw_m1 130 rfl) rfl
theorem q148 : (Jvm.Cond.code ({ cls := "SparseKernels", name := "count", desc := "(I)I" } : Jvm.MethodName) prog_1_method_25_code (2 : Nat) (Option.some Jvm.ClassFile.FieldType.int)) ∈ lw_all := lw_g (lw_at lw_m1 131 rfl) rfl
theorem q150 : (Jvm.Cond.instanceMethod ({ cls := "SparseKernels", name := "next", desc := "(III)I" } : Jvm.MethodName)) ∈ lw_all := lw_g (lw_at lw_m1 133 rfl) rfl
theorem q151 : (Jvm.Cond.selects "SparseKernels" ({ cls := "SparseKernels", name := "next", desc := "(III)I" } : Jvm.MethodName) ({ cls := "SparseKernels", name := "next", desc := "(III)I" } : Jvm.MethodName)) ∈ lw_all := lw_g (lw_at lw_m1 134 rfl) rfl
theorem q152 : (Jvm.Cond.code ({ cls := "SparseKernels", name := "next", desc := "(III)I" } : Jvm.MethodName) prog_1_method_26_code (5 : Nat) (Option.some Jvm.ClassFile.FieldType.int)) ∈ lw_all := lw_g (lw_at lw_m1 135 rfl) rfl
theorem q154 : (Jvm.Cond.instanceMethod ({ cls := "SparseKernels", name := "rowsProduct", desc := "(IIII)I" } : Jvm.MethodName)) ∈ lw_all := lw_g (lw_at lw_m1 137 rfl) rfl
theorem q155 : (Jvm.Cond.selects "SparseKernels" ({ cls := "SparseKernels", name := "rowsProduct", desc := "(IIII)I" } : Jvm.MethodName) ({ cls := "SparseKernels", name := "rowsProduct", desc := "(IIII)I" } : Jvm.MethodName)) ∈ lw_all := lw_g (lw_at lw_m1 138 rfl) rfl
theorem q156 : (Jvm.Cond.code ({ cls := "SparseKernels", name := "rowsProduct", desc := "(IIII)I" } : Jvm.MethodName) prog_1_method_27_code (8 : Nat) (Option.some Jvm.ClassFile.FieldType.int)) ∈ lw_all := lw_g (lw_at lw_m1 139 rfl) rfl
theorem q158 : (Jvm.Cond.instanceMethod ({ cls := "SparseKernels", name := "sum", desc := "(III)I" } : Jvm.MethodName)) ∈ lw_all := lw_g (lw_at lw_m1 141 rfl) rfl
theorem q159 : (Jvm.Cond.selects "SparseKernels" ({ cls := "SparseKernels", name := "sum", desc := "(III)I" } : Jvm.MethodName) ({ cls := "SparseKernels", name := "sum", desc := "(III)I" } : Jvm.MethodName)) ∈ lw_all := lw_g (lw_at lw_m1 142 rfl) rfl
theorem q160 : (Jvm.Cond.code ({ cls := "SparseKernels", name := "sum", desc := "(III)I" } : Jvm.MethodName) prog_1_method_28_code (8 : Nat) (Option.some Jvm.ClassFile.FieldType.int)) ∈ lw_all := lw_g (lw_at lw_m1 143 rfl) rfl
theorem q162 : (Jvm.Cond.instanceMethod ({ cls := "SparseKernels", name := "same", desc := "(II)Z" } : Jvm.MethodName)) ∈ lw_all := lw_g (lw_at lw_m1 145 rfl) rfl
theorem q163 : (Jvm.Cond.selects "SparseKernels" ({ cls := "SparseKernels", name := "same", desc := "(II)Z" } : Jvm.MethodName) ({ cls := "SparseKernels", name := "same", desc := "(II)Z" } : Jvm.MethodName)) ∈ lw_all := lw_g (lw_at lw_m1 146 rfl) rfl
theorem q164 : (Jvm.Cond.code ({ cls := "SparseKernels", name := "same", desc := "(II)Z" } : Jvm.MethodName) prog_1_method_29_code (6 : Nat) (Option.some Jvm.ClassFile.FieldType.boolean)) ∈ lw_all := lw_g (lw_at lw_m1 147 rfl) rfl
theorem q166 : (Jvm.Cond.instanceMethod ({ cls := "SparseKernels", name := "symmetric", desc := "(I)Z" } : Jvm.MethodName)) ∈ lw_all := lw_g (lw_at lw_m1 149 rfl) rfl
theorem q167 : (Jvm.Cond.selects "SparseKernels" ({ cls := "SparseKernels", name := "symmetric", desc := "(I)Z" } : Jvm.MethodName) ({ cls := "SparseKernels", name := "symmetric", desc := "(I)Z" } : Jvm.MethodName)) ∈ lw_all := lw_g (lw_at lw_m1 150 rfl) rfl
theorem q168 : (Jvm.Cond.code ({ cls := "SparseKernels", name := "symmetric", desc := "(I)Z" } : Jvm.MethodName) prog_1_method_30_code (5 : Nat) (Option.some Jvm.ClassFile.FieldType.boolean)) ∈ lw_all := lw_g (lw_at lw_m1 151 rfl) rfl
theorem in_X0 : ∀ w ∈ wsX00, w ∈ lw_all := lw_in wsX00 [36, 38, 40, 42, 44, 46, 48, 50] (by decide +kernel) (by decide +kernel)
theorem q19 : (Jvm.Cond.initialized "SparseKernelsModel") ∈ lw_all := lw_g (lw_at lw_m1 2 rfl) rfl
theorem q170 : (Jvm.Cond.instantiable "SparseKernelsModel" (2 : Nat)) ∈ lw_all := lw_g (lw_at lw_m1 153 rfl) rfl
theorem q172 : (Jvm.Cond.instanceMethod ({ cls := "SparseKernelsModel", name := "<init>", desc := "()V" } : Jvm.MethodName)) ∈ lw_all := lw_g (lw_at lw_m1 155 rfl) rfl
theorem q173 : (Jvm.Cond.code ({ cls := "SparseKernelsModel", name := "<init>", desc := "()V" } : Jvm.MethodName) prog_3_method_1_code (1 : Nat) (Option.none : Option Jvm.ClassFile.FieldType)) ∈ lw_all := lw_g (lw_at lw_m1 156 rfl) rfl
theorem q174 : (Jvm.Cond.methodLink "SparseKernelsModel" (1 : Nat) ({ cls := "java/lang/Object", name := "<init>", desc := "()V" } : Jvm.MethodName)) ∈ lw_all := lw_g (lw_at lw_m1 157 rfl) rfl
theorem q175 : (Jvm.Cond.fieldLink "SparseKernelsModel" (7 : Nat) "SparseKernelsModel" "all" "[I") ∈ lw_all := lw_g (lw_at lw_m1 158 rfl) rfl
theorem q176 : (Jvm.Cond.fieldLink "SparseKernelsModel" (13 : Nat) "SparseKernelsModel" "made" "[I") ∈ lw_all := lw_g (lw_at lw_m1 159 rfl) rfl
theorem q177 : (Jvm.Cond.lays "SparseKernelsModel" "SparseKernelsModel" "all" "[I") ∈ lw_all := lw_g (lw_at lw_m1 160 rfl) rfl
theorem q178 : (Jvm.Cond.soleField "SparseKernelsModel" "all") ∈ lw_all := lw_g (lw_at lw_m1 161 rfl) rfl
theorem q179 : (Jvm.Cond.lays "SparseKernelsModel" "SparseKernelsModel" "made" "[I") ∈ lw_all := lw_g (lw_at lw_m1 162 rfl) rfl
theorem q180 : (Jvm.Cond.soleField "SparseKernelsModel" "made") ∈ lw_all := lw_g (lw_at lw_m1 163 rfl) rfl
theorem q181 : (Jvm.Cond.superclass "SparseKernelsModel" "java/lang/Object") ∈ lw_all := lw_g (lw_at lw_m1 164 rfl) rfl
theorem q183 : (Jvm.Cond.instanceMethod ({ cls := "SparseKernelsModel", name := "put", desc := "(IIII)Z" } : Jvm.MethodName)) ∈ lw_all := lw_g (lw_at lw_m1 166 rfl) rfl
theorem q184 : (Jvm.Cond.selects "SparseKernelsModel" ({ cls := "SparseKernelsModel", name := "put", desc := "(IIII)Z" } : Jvm.MethodName) ({ cls := "SparseKernelsModel", name := "put", desc := "(IIII)Z" } : Jvm.MethodName)) ∈ lw_all := lw_g (lw_at lw_m1 167 rfl) rfl
theorem q185 : (Jvm.Cond.code ({ cls := "SparseKernelsModel", name := "put", desc := "(IIII)Z" } : Jvm.MethodName) prog_3_method_5_code (5 : Nat) (Option.some Jvm.ClassFile.FieldType.boolean)) ∈ lw_all := lw_g (lw_at lw_m1 168 rfl) rfl
theorem q186 : (Jvm.Cond.methodLink "SparseKernelsModel" (16 : Nat) ({ cls := "SparseKernelsModel", name := "slot", desc := "(I)Z" } : Jvm.MethodName)) ∈ lw_all := lw_g (lw_at lw_m1 169 rfl) rfl
theorem q187 : (Jvm.Cond.privateMethod ({ cls := "SparseKernelsModel", name := "slot", desc := "(I)Z" } : Jvm.MethodName)) ∈ lw_tbl := lw_at lw_m1 170 rfl
theorem q188 : (Jvm.Cond.instanceMethod ({ cls := "SparseKernelsModel", name := "slot", desc := "(I)Z" } : Jvm.MethodName)) ∈ lw_all := lw_g (lw_at lw_m1 171 rfl) rfl
theorem q189 : (Jvm.Cond.code ({ cls := "SparseKernelsModel", name := "slot", desc := "(I)Z" } : Jvm.MethodName) prog_3_method_2_code (2 : Nat) (Option.some Jvm.ClassFile.FieldType.boolean)) ∈ lw_all := lw_g (lw_at lw_m1 172 rfl) rfl
theorem q190 : (Jvm.Cond.methodLink "SparseKernelsModel" (20 : Nat) ({ cls := "SparseKernelsModel", name := "line", desc := "(I)Z" } : Jvm.MethodName)) ∈ lw_all := lw_g (lw_at lw_m1 173 rfl) rfl
theorem q191 : (Jvm.Cond.privateMethod ({ cls := "SparseKernelsModel", name := "line", desc := "(I)Z" } : Jvm.MethodName)) ∈ lw_tbl := lw_at lw_m1 174 rfl
theorem q192 : (Jvm.Cond.instanceMethod ({ cls := "SparseKernelsModel", name := "line", desc := "(I)Z" } : Jvm.MethodName)) ∈ lw_all := lw_g (lw_at lw_m1 175 rfl) rfl
theorem q193 : (Jvm.Cond.code ({ cls := "SparseKernelsModel", name := "line", desc := "(I)Z" } : Jvm.MethodName) prog_3_method_3_code (2 : Nat) (Option.some Jvm.ClassFile.FieldType.boolean)) ∈ lw_all := lw_g (lw_at lw_m1 176 rfl) rfl
theorem q195 : (Jvm.Cond.instanceMethod ({ cls := "SparseKernelsModel", name := "add", desc := "(III)I" } : Jvm.MethodName)) ∈ lw_all := lw_g (lw_at lw_m1 178 rfl) rfl
theorem q196 : (Jvm.Cond.selects "SparseKernelsModel" ({ cls := "SparseKernelsModel", name := "add", desc := "(III)I" } : Jvm.MethodName) ({ cls := "SparseKernelsModel", name := "add", desc := "(III)I" } : Jvm.MethodName)) ∈ lw_all := lw_g (lw_at lw_m1 179 rfl) rfl
theorem q197 : (Jvm.Cond.code ({ cls := "SparseKernelsModel", name := "add", desc := "(III)I" } : Jvm.MethodName) prog_3_method_7_code (5 : Nat) (Option.some Jvm.ClassFile.FieldType.int)) ∈ lw_all := lw_g (lw_at lw_m1 180 rfl) rfl
theorem q198 : (Jvm.Cond.methodLink "SparseKernelsModel" (27 : Nat) ({ cls := "SparseKernelsModel", name := "keep", desc := "(I)I" } : Jvm.MethodName)) ∈ lw_all := lw_g (lw_at lw_m1 181 rfl) rfl
theorem q199 : (Jvm.Cond.privateMethod ({ cls := "SparseKernelsModel", name := "keep", desc := "(I)I" } : Jvm.MethodName)) ∈ lw_tbl := lw_at lw_m1 182 rfl
theorem q200 : (Jvm.Cond.instanceMethod ({ cls := "SparseKernelsModel", name := "keep", desc := "(I)I" } : Jvm.MethodName)) ∈ lw_all := lw_g (lw_at lw_m1 183 rfl) rfl
theorem q201 : (Jvm.Cond.code ({ cls := "SparseKernelsModel", name := "keep", desc := "(I)I" } : Jvm.MethodName) prog_3_method_6_code (3 : Nat) (Option.some Jvm.ClassFile.FieldType.int)) ∈ lw_all := lw_g (lw_at lw_m1 184 rfl) rfl
theorem q202 : (Jvm.Cond.methodLink "SparseKernelsModel" (23 : Nat) ({ cls := "SparseKernelsModel", name := "count", desc := "(I)I" } : Jvm.MethodName)) ∈ lw_all := lw_g (lw_at lw_m1 185 rfl) rfl
theorem q203 : (Jvm.Cond.instanceMethod ({ cls := "SparseKernelsModel", name := "count", desc := "(I)I" } : Jvm.MethodName)) ∈ lw_all := lw_g (lw_at lw_m1 186 rfl) rfl
theorem q204 : (Jvm.Cond.selects "SparseKernelsModel" ({ cls := "SparseKernelsModel", name := "count", desc := "(I)I" } : Jvm.MethodName) ({ cls := "SparseKernelsModel", name := "count", desc := "(I)I" } : Jvm.MethodName)) ∈ lw_all := lw_g (lw_at lw_m1 187 rfl) rfl
theorem q205 : (Jvm.Cond.code ({ cls := "SparseKernelsModel", name := "count", desc := "(I)I" } : Jvm.MethodName) prog_3_method_16_code (4 : Nat) (Option.some Jvm.ClassFile.FieldType.int)) ∈ lw_all := lw_g (lw_at lw_m1 188 rfl) rfl
theorem q207 : (Jvm.Cond.instanceMethod ({ cls := "SparseKernelsModel", name := "entrywise", desc := "(III)I" } : Jvm.MethodName)) ∈ lw_all := lw_g (lw_at lw_m1 190 rfl) rfl
theorem q208 : (Jvm.Cond.selects "SparseKernelsModel" ({ cls := "SparseKernelsModel", name := "entrywise", desc := "(III)I" } : Jvm.MethodName) ({ cls := "SparseKernelsModel", name := "entrywise", desc := "(III)I" } : Jvm.MethodName)) ∈ lw_all := lw_g (lw_at lw_m1 191 rfl) rfl
theorem q209 : (Jvm.Cond.code ({ cls := "SparseKernelsModel", name := "entrywise", desc := "(III)I" } : Jvm.MethodName) prog_3_method_8_code (5 : Nat) (Option.some Jvm.ClassFile.FieldType.int)) ∈ lw_all := lw_g (lw_at lw_m1 192 rfl) rfl
theorem q211 : (Jvm.Cond.instanceMethod ({ cls := "SparseKernelsModel", name := "product", desc := "(III)I" } : Jvm.MethodName)) ∈ lw_all := lw_g (lw_at lw_m1 194 rfl) rfl
theorem q212 : (Jvm.Cond.selects "SparseKernelsModel" ({ cls := "SparseKernelsModel", name := "product", desc := "(III)I" } : Jvm.MethodName) ({ cls := "SparseKernelsModel", name := "product", desc := "(III)I" } : Jvm.MethodName)) ∈ lw_all := lw_g (lw_at lw_m1 195 rfl) rfl
theorem q213 : (Jvm.Cond.code ({ cls := "SparseKernelsModel", name := "product", desc := "(III)I" } : Jvm.MethodName) prog_3_method_10_code (5 : Nat) (Option.some Jvm.ClassFile.FieldType.int)) ∈ lw_all := lw_g (lw_at lw_m1 196 rfl) rfl
theorem q214 : (Jvm.Cond.methodLink "SparseKernelsModel" (34 : Nat) ({ cls := "SparseKernelsModel", name := "entry", desc := "(IIII)I" } : Jvm.MethodName)) ∈ lw_all := lw_g (lw_at lw_m1 197 rfl) rfl
theorem q215 : (Jvm.Cond.privateMethod ({ cls := "SparseKernelsModel", name := "entry", desc := "(IIII)I" } : Jvm.MethodName)) ∈ lw_tbl := lw_at lw_m1 198 rfl
theorem q216 : (Jvm.Cond.instanceMethod ({ cls := "SparseKernelsModel", name := "entry", desc := "(IIII)I" } : Jvm.MethodName)) ∈ lw_all := lw_g (lw_at lw_m1 199 rfl) rfl
theorem q217 : (Jvm.Cond.code ({ cls := "SparseKernelsModel", name := "entry", desc := "(IIII)I" } : Jvm.MethodName) prog_3_method_9_code (7 : Nat) (Option.some Jvm.ClassFile.FieldType.int)) ∈ lw_all := lw_g (lw_at lw_m1 200 rfl) rfl
theorem q218 : (Jvm.Cond.methodLink "SparseKernelsModel" (30 : Nat) ({ cls := "SparseKernelsModel", name := "cell", desc := "(III)I" } : Jvm.MethodName)) ∈ lw_all := lw_g (lw_at lw_m1 201 rfl) rfl
theorem q219 : (Jvm.Cond.privateMethod ({ cls := "SparseKernelsModel", name := "cell", desc := "(III)I" } : Jvm.MethodName)) ∈ lw_tbl := lw_at lw_m1 202 rfl
theorem q220 : (Jvm.Cond.instanceMethod ({ cls := "SparseKernelsModel", name := "cell", desc := "(III)I" } : Jvm.MethodName)) ∈ lw_all := lw_g (lw_at lw_m1 203 rfl) rfl
theorem q221 : (Jvm.Cond.code ({ cls := "SparseKernelsModel", name := "cell", desc := "(III)I" } : Jvm.MethodName) prog_3_method_4_code (4 : Nat) (Option.some Jvm.ClassFile.FieldType.int)) ∈ lw_all := lw_g (lw_at lw_m1 204 rfl) rfl
theorem q223 : (Jvm.Cond.instanceMethod ({ cls := "SparseKernelsModel", name := "masked", desc := "(II)I" } : Jvm.MethodName)) ∈ lw_all := lw_g (lw_at lw_m1 206 rfl) rfl
theorem q224 : (Jvm.Cond.selects "SparseKernelsModel" ({ cls := "SparseKernelsModel", name := "masked", desc := "(II)I" } : Jvm.MethodName) ({ cls := "SparseKernelsModel", name := "masked", desc := "(II)I" } : Jvm.MethodName)) ∈ lw_all := lw_g (lw_at lw_m1 207 rfl) rfl
theorem q225 : (Jvm.Cond.code ({ cls := "SparseKernelsModel", name := "masked", desc := "(II)I" } : Jvm.MethodName) prog_3_method_11_code (7 : Nat) (Option.some Jvm.ClassFile.FieldType.int)) ∈ lw_all := lw_g (lw_at lw_m1 208 rfl) rfl
theorem q227 : (Jvm.Cond.instanceMethod ({ cls := "SparseKernelsModel", name := "transpose", desc := "(II)I" } : Jvm.MethodName)) ∈ lw_all := lw_g (lw_at lw_m1 210 rfl) rfl
theorem q228 : (Jvm.Cond.selects "SparseKernelsModel" ({ cls := "SparseKernelsModel", name := "transpose", desc := "(II)I" } : Jvm.MethodName) ({ cls := "SparseKernelsModel", name := "transpose", desc := "(II)I" } : Jvm.MethodName)) ∈ lw_all := lw_g (lw_at lw_m1 211 rfl) rfl
theorem q229 : (Jvm.Cond.code ({ cls := "SparseKernelsModel", name := "transpose", desc := "(II)I" } : Jvm.MethodName) prog_3_method_12_code (4 : Nat) (Option.some Jvm.ClassFile.FieldType.int)) ∈ lw_all := lw_g (lw_at lw_m1 212 rfl) rfl
theorem q231 : (Jvm.Cond.instanceMethod ({ cls := "SparseKernelsModel", name := "scale", desc := "(III)I" } : Jvm.MethodName)) ∈ lw_all := lw_g (lw_at lw_m1 214 rfl) rfl
theorem q232 : (Jvm.Cond.selects "SparseKernelsModel" ({ cls := "SparseKernelsModel", name := "scale", desc := "(III)I" } : Jvm.MethodName) ({ cls := "SparseKernelsModel", name := "scale", desc := "(III)I" } : Jvm.MethodName)) ∈ lw_all := lw_g (lw_at lw_m1 215 rfl) rfl
theorem q233 : (Jvm.Cond.code ({ cls := "SparseKernelsModel", name := "scale", desc := "(III)I" } : Jvm.MethodName) prog_3_method_13_code (5 : Nat) (Option.some Jvm.ClassFile.FieldType.int)) ∈ lw_all := lw_g (lw_at lw_m1 216 rfl) rfl
theorem q235 : (Jvm.Cond.instanceMethod ({ cls := "SparseKernelsModel", name := "select", desc := "(III)I" } : Jvm.MethodName)) ∈ lw_all := lw_g (lw_at lw_m1 218 rfl) rfl
theorem q236 : (Jvm.Cond.selects "SparseKernelsModel" ({ cls := "SparseKernelsModel", name := "select", desc := "(III)I" } : Jvm.MethodName) ({ cls := "SparseKernelsModel", name := "select", desc := "(III)I" } : Jvm.MethodName)) ∈ lw_all := lw_g (lw_at lw_m1 219 rfl) rfl
theorem q237 : (Jvm.Cond.code ({ cls := "SparseKernelsModel", name := "select", desc := "(III)I" } : Jvm.MethodName) prog_3_method_14_code (6 : Nat) (Option.some Jvm.ClassFile.FieldType.int)) ∈ lw_all := lw_g (lw_at lw_m1 220 rfl) rfl
theorem q239 : (Jvm.Cond.instanceMethod ({ cls := "SparseKernelsModel", name := "at", desc := "(III)I" } : Jvm.MethodName)) ∈ lw_all := lw_g (lw_at lw_m1 222 rfl) rfl
theorem q240 : (Jvm.Cond.selects "SparseKernelsModel" ({ cls := "SparseKernelsModel", name := "at", desc := "(III)I" } : Jvm.MethodName) ({ cls := "SparseKernelsModel", name := "at", desc := "(III)I" } : Jvm.MethodName)) ∈ lw_all := lw_g (lw_at lw_m1 223 rfl) rfl
theorem q241 : (Jvm.Cond.code ({ cls := "SparseKernelsModel", name := "at", desc := "(III)I" } : Jvm.MethodName) prog_3_method_15_code (4 : Nat) (Option.some Jvm.ClassFile.FieldType.int)) ∈ lw_all := lw_g (lw_at lw_m1 224 rfl) rfl
theorem q244 : (Jvm.Cond.instanceMethod ({ cls := "SparseKernelsModel", name := "next", desc := "(III)I" } : Jvm.MethodName)) ∈ lw_all := lw_g (lw_at lw_m1 227 rfl) rfl
theorem q245 : (Jvm.Cond.selects "SparseKernelsModel" ({ cls := "SparseKernelsModel", name := "next", desc := "(III)I" } : Jvm.MethodName) ({ cls := "SparseKernelsModel", name := "next", desc := "(III)I" } : Jvm.MethodName)) ∈ lw_all := lw_g (lw_at lw_m1 228 rfl) rfl
theorem q246 : (Jvm.Cond.code ({ cls := "SparseKernelsModel", name := "next", desc := "(III)I" } : Jvm.MethodName) prog_3_method_17_code (5 : Nat) (Option.some Jvm.ClassFile.FieldType.int)) ∈ lw_all := lw_g (lw_at lw_m1 229 rfl) rfl
theorem q248 : (Jvm.Cond.instanceMethod ({ cls := "SparseKernelsModel", name := "rowsProduct", desc := "(IIII)I" } : Jvm.MethodName)) ∈ lw_all := lw_g (lw_at lw_m1 231 rfl) rfl
theorem q249 : (Jvm.Cond.selects "SparseKernelsModel" ({ cls := "SparseKernelsModel", name := "rowsProduct", desc := "(IIII)I" } : Jvm.MethodName) ({ cls := "SparseKernelsModel", name := "rowsProduct", desc := "(IIII)I" } : Jvm.MethodName)) ∈ lw_all := lw_g (lw_at lw_m1 232 rfl) rfl
theorem q250 : (Jvm.Cond.code ({ cls := "SparseKernelsModel", name := "rowsProduct", desc := "(IIII)I" } : Jvm.MethodName) prog_3_method_18_code (7 : Nat) (Option.some Jvm.ClassFile.FieldType.int)) ∈ lw_all := lw_g (lw_at lw_m1 233 rfl) rfl
theorem q252 : (Jvm.Cond.instanceMethod ({ cls := "SparseKernelsModel", name := "sum", desc := "(III)I" } : Jvm.MethodName)) ∈ lw_all := lw_g (lw_at lw_m1 235 rfl) rfl
theorem q253 : (Jvm.Cond.selects "SparseKernelsModel" ({ cls := "SparseKernelsModel", name := "sum", desc := "(III)I" } : Jvm.MethodName) ({ cls := "SparseKernelsModel", name := "sum", desc := "(III)I" } : Jvm.MethodName)) ∈ lw_all := lw_g (lw_at lw_m1 236 rfl) rfl
theorem q254 : (Jvm.Cond.code ({ cls := "SparseKernelsModel", name := "sum", desc := "(III)I" } : Jvm.MethodName) prog_3_method_19_code (6 : Nat) (Option.some Jvm.ClassFile.FieldType.int)) ∈ lw_all := lw_g (lw_at lw_m1 237 rfl) rfl
theorem q256 : (Jvm.Cond.instanceMethod ({ cls := "SparseKernelsModel", name := "same", desc := "(II)Z" } : Jvm.MethodName)) ∈ lw_all := lw_g (lw_at lw_m1 239 rfl) rfl
theorem q257 : (Jvm.Cond.selects "SparseKernelsModel" ({ cls := "SparseKernelsModel", name := "same", desc := "(II)Z" } : Jvm.MethodName) ({ cls := "SparseKernelsModel", name := "same", desc := "(II)Z" } : Jvm.MethodName)) ∈ lw_all := lw_g (lw_at lw_m2 0 rfl) rfl
theorem q258 : (Jvm.Cond.code ({ cls := "SparseKernelsModel", name := "same", desc := "(II)Z" } : Jvm.MethodName) prog_3_method_20_code (5 : Nat) (Option.some Jvm.ClassFile.FieldType.boolean)) ∈ lw_all := lw_g (lw_at lw_m2 1 rfl) rfl
theorem q260 : (Jvm.Cond.instanceMethod ({ cls := "SparseKernelsModel", name := "symmetric", desc := "(I)Z" } : Jvm.MethodName)) ∈ lw_all := lw_g (lw_at lw_m2 3 rfl) rfl
theorem q261 : (Jvm.Cond.selects "SparseKernelsModel" ({ cls := "SparseKernelsModel", name := "symmetric", desc := "(I)Z" } : Jvm.MethodName) ({ cls := "SparseKernelsModel", name := "symmetric", desc := "(I)Z" } : Jvm.MethodName)) ∈ lw_all := lw_g (lw_at lw_m2 4 rfl) rfl
theorem q262 : (Jvm.Cond.code ({ cls := "SparseKernelsModel", name := "symmetric", desc := "(I)Z" } : Jvm.MethodName) prog_3_method_21_code (4 : Nat) (Option.some Jvm.ClassFile.FieldType.boolean)) ∈ lw_all := lw_g (lw_at lw_m2 5 rfl) rfl
theorem in_X1 : ∀ w ∈ wsX10, w ∈ lw_all := lw_in wsX10 [177, 179] (by decide +kernel) (by decide +kernel)
theorem q17 : (Jvm.Cond.initialized "SparseKernelsLaw") ∈ lw_all := lw_g (lw_at lw_m1 0 rfl) rfl
theorem q20 : (Jvm.Cond.classLink "SparseKernelsLaw" (7 : Nat) "SparseKernels") ∈ lw_all := lw_g (lw_at lw_m1 3 rfl) rfl
theorem q22 : (Jvm.Cond.methodLink "SparseKernelsLaw" (9 : Nat) ({ cls := "SparseKernels", name := "<init>", desc := "()V" } : Jvm.MethodName)) ∈ lw_all := lw_g (lw_at lw_m1 5 rfl) rfl
theorem q55 : (Jvm.Cond.methodLink "SparseKernelsLaw" (13 : Nat) ({ cls := "SparseKernels", name := "put", desc := "(IIII)Z" } : Jvm.MethodName)) ∈ lw_all := lw_g (lw_at lw_m1 38 rfl) rfl
theorem q97 : (Jvm.Cond.methodLink "SparseKernelsLaw" (18 : Nat) ({ cls := "SparseKernels", name := "add", desc := "(III)I" } : Jvm.MethodName)) ∈ lw_all := lw_g (lw_at lw_m1 80 rfl) rfl
theorem q105 : (Jvm.Cond.methodLink "SparseKernelsLaw" (23 : Nat) ({ cls := "SparseKernels", name := "entrywise", desc := "(III)I" } : Jvm.MethodName)) ∈ lw_all := lw_g (lw_at lw_m1 88 rfl) rfl
theorem q113 : (Jvm.Cond.methodLink "SparseKernelsLaw" (27 : Nat) ({ cls := "SparseKernels", name := "product", desc := "(III)I" } : Jvm.MethodName)) ∈ lw_all := lw_g (lw_at lw_m1 96 rfl) rfl
theorem q121 : (Jvm.Cond.methodLink "SparseKernelsLaw" (31 : Nat) ({ cls := "SparseKernels", name := "masked", desc := "(II)I" } : Jvm.MethodName)) ∈ lw_all := lw_g (lw_at lw_m1 104 rfl) rfl
theorem q125 : (Jvm.Cond.methodLink "SparseKernelsLaw" (36 : Nat) ({ cls := "SparseKernels", name := "transpose", desc := "(II)I" } : Jvm.MethodName)) ∈ lw_all := lw_g (lw_at lw_m1 108 rfl) rfl
theorem q133 : (Jvm.Cond.methodLink "SparseKernelsLaw" (40 : Nat) ({ cls := "SparseKernels", name := "scale", desc := "(III)I" } : Jvm.MethodName)) ∈ lw_all := lw_g (lw_at lw_m1 116 rfl) rfl
theorem q137 : (Jvm.Cond.methodLink "SparseKernelsLaw" (44 : Nat) ({ cls := "SparseKernels", name := "select", desc := "(III)I" } : Jvm.MethodName)) ∈ lw_all := lw_g (lw_at lw_m1 120 rfl) rfl
theorem q141 : (Jvm.Cond.methodLink "SparseKernelsLaw" (48 : Nat) ({ cls := "SparseKernels", name := "at", desc := "(III)I" } : Jvm.MethodName)) ∈ lw_all := lw_g (lw_at lw_m1 124 rfl) rfl
theorem q145 : (Jvm.Cond.methodLink "SparseKernelsLaw" (52 : Nat) ({ cls := "SparseKernels", name := "count", desc := "(I)I" } : Jvm.MethodName)) ∈ lw_all := lw_g (lw_at lw_m1 128 rfl) rfl
theorem q149 : (Jvm.Cond.methodLink "SparseKernelsLaw" (57 : Nat) ({ cls := "SparseKernels", name := "next", desc := "(III)I" } : Jvm.MethodName)) ∈ lw_all := lw_g (lw_at lw_m1 132 rfl) rfl
theorem q153 : (Jvm.Cond.methodLink "SparseKernelsLaw" (61 : Nat) ({ cls := "SparseKernels", name := "rowsProduct", desc := "(IIII)I" } : Jvm.MethodName)) ∈ lw_all := lw_g (lw_at lw_m1 136 rfl) rfl
theorem q157 : (Jvm.Cond.methodLink "SparseKernelsLaw" (66 : Nat) ({ cls := "SparseKernels", name := "sum", desc := "(III)I" } : Jvm.MethodName)) ∈ lw_all := lw_g (lw_at lw_m1 140 rfl) rfl
theorem q161 : (Jvm.Cond.methodLink "SparseKernelsLaw" (70 : Nat) ({ cls := "SparseKernels", name := "same", desc := "(II)Z" } : Jvm.MethodName)) ∈ lw_all := lw_g (lw_at lw_m1 144 rfl) rfl
theorem q165 : (Jvm.Cond.methodLink "SparseKernelsLaw" (75 : Nat) ({ cls := "SparseKernels", name := "symmetric", desc := "(I)Z" } : Jvm.MethodName)) ∈ lw_all := lw_g (lw_at lw_m1 148 rfl) rfl
theorem q169 : (Jvm.Cond.classLink "SparseKernelsLaw" (10 : Nat) "SparseKernelsModel") ∈ lw_all := lw_g (lw_at lw_m1 152 rfl) rfl
theorem q171 : (Jvm.Cond.methodLink "SparseKernelsLaw" (12 : Nat) ({ cls := "SparseKernelsModel", name := "<init>", desc := "()V" } : Jvm.MethodName)) ∈ lw_all := lw_g (lw_at lw_m1 154 rfl) rfl
theorem q182 : (Jvm.Cond.methodLink "SparseKernelsLaw" (17 : Nat) ({ cls := "SparseKernelsModel", name := "put", desc := "(IIII)Z" } : Jvm.MethodName)) ∈ lw_all := lw_g (lw_at lw_m1 165 rfl) rfl
theorem q194 : (Jvm.Cond.methodLink "SparseKernelsLaw" (22 : Nat) ({ cls := "SparseKernelsModel", name := "add", desc := "(III)I" } : Jvm.MethodName)) ∈ lw_all := lw_g (lw_at lw_m1 177 rfl) rfl
theorem q206 : (Jvm.Cond.methodLink "SparseKernelsLaw" (26 : Nat) ({ cls := "SparseKernelsModel", name := "entrywise", desc := "(III)I" } : Jvm.MethodName)) ∈ lw_all := lw_g (lw_at lw_m1 189 rfl) rfl
theorem q210 : (Jvm.Cond.methodLink "SparseKernelsLaw" (30 : Nat) ({ cls := "SparseKernelsModel", name := "product", desc := "(III)I" } : Jvm.MethodName)) ∈ lw_all := lw_g (lw_at lw_m1 193 rfl) rfl
theorem q222 : (Jvm.Cond.methodLink "SparseKernelsLaw" (35 : Nat) ({ cls := "SparseKernelsModel", name := "masked", desc := "(II)I" } : Jvm.MethodName)) ∈ lw_all := lw_g (lw_at lw_m1 205 rfl) rfl
theorem q226 : (Jvm.Cond.methodLink "SparseKernelsLaw" (39 : Nat) ({ cls := "SparseKernelsModel", name := "transpose", desc := "(II)I" } : Jvm.MethodName)) ∈ lw_all := lw_g (lw_at lw_m1 209 rfl) rfl
theorem q230 : (Jvm.Cond.methodLink "SparseKernelsLaw" (43 : Nat) ({ cls := "SparseKernelsModel", name := "scale", desc := "(III)I" } : Jvm.MethodName)) ∈ lw_all := lw_g (lw_at lw_m1 213 rfl) rfl
theorem q234 : (Jvm.Cond.methodLink "SparseKernelsLaw" (47 : Nat) ({ cls := "SparseKernelsModel", name := "select", desc := "(III)I" } : Jvm.MethodName)) ∈ lw_all := lw_g (lw_at lw_m1 217 rfl) rfl
theorem q238 : (Jvm.Cond.methodLink "SparseKernelsLaw" (51 : Nat) ({ cls := "SparseKernelsModel", name := "at", desc := "(III)I" } : Jvm.MethodName)) ∈ lw_all := lw_g (lw_at lw_m1 221 rfl) rfl
theorem q242 : (Jvm.Cond.methodLink "SparseKernelsLaw" (56 : Nat) ({ cls := "SparseKernelsModel", name := "count", desc := "(I)I" } : Jvm.MethodName)) ∈ lw_all := lw_g (lw_at lw_m1 225 rfl) rfl
theorem q243 : (Jvm.Cond.methodLink "SparseKernelsLaw" (60 : Nat) ({ cls := "SparseKernelsModel", name := "next", desc := "(III)I" } : Jvm.MethodName)) ∈ lw_all := lw_g (lw_at lw_m1 226 rfl) rfl
theorem q247 : (Jvm.Cond.methodLink "SparseKernelsLaw" (65 : Nat) ({ cls := "SparseKernelsModel", name := "rowsProduct", desc := "(IIII)I" } : Jvm.MethodName)) ∈ lw_all := lw_g (lw_at lw_m1 230 rfl) rfl
theorem q251 : (Jvm.Cond.methodLink "SparseKernelsLaw" (69 : Nat) ({ cls := "SparseKernelsModel", name := "sum", desc := "(III)I" } : Jvm.MethodName)) ∈ lw_all := lw_g (lw_at lw_m1 234 rfl) rfl
theorem q255 : (Jvm.Cond.methodLink "SparseKernelsLaw" (74 : Nat) ({ cls := "SparseKernelsModel", name := "same", desc := "(II)Z" } : Jvm.MethodName)) ∈ lw_all := lw_g (lw_at lw_m1 238 rfl) rfl
theorem q259 : (Jvm.Cond.methodLink "SparseKernelsLaw" (79 : Nat) ({ cls := "SparseKernelsModel", name := "symmetric", desc := "(I)Z" } : Jvm.MethodName)) ∈ lw_all := lw_g (lw_at lw_m2 2 rfl) rfl
theorem q53 : (Jvm.Cond.arrayClass Jvm.ClassFile.FieldType.byte) ∈ lw_all := lw_g (lw_at lw_m1 36 rfl) rfl
theorem q54 : (Jvm.Cond.arrayClass Jvm.ClassFile.FieldType.int) ∈ lw_all := lw_g (lw_at lw_m1 37 rfl) rfl
end
section
set_option maxRecDepth 100000
theorem dX0_init_0 : decode cX0_init 0 = .ok (.aload_n 0, 1) := by decide +kernel
theorem dX0_init_1 : decode cX0_init 1 = .ok (.invokespecial 1, 3) := by decide +kernel
theorem dX0_init_4 : decode cX0_init 4 = .ok (.aload_n 0, 1) := by decide +kernel
theorem dX0_init_5 : decode cX0_init 5 = .ok (.bipush 35, 2) := by decide +kernel
theorem dX0_init_7 : decode cX0_init 7 = .ok (.newarray .byte, 2) := by decide +kernel
theorem dX0_init_9 : decode cX0_init 9 = .ok (.putfield 7, 3) := by decide +kernel
theorem dX0_init_12 : decode cX0_init 12 = .ok (.aload_n 0, 1) := by decide +kernel
theorem dX0_init_13 : decode cX0_init 13 = .ok (.sipush 180, 3) := by decide +kernel
theorem dX0_init_16 : decode cX0_init 16 = .ok (.newarray .byte, 2) := by decide +kernel
theorem dX0_init_18 : decode cX0_init 18 = .ok (.putfield 13, 3) := by decide +kernel
theorem dX0_init_21 : decode cX0_init 21 = .ok (.aload_n 0, 1) := by decide +kernel
theorem dX0_init_22 : decode cX0_init 22 = .ok (.sipush 180, 3) := by decide +kernel
theorem dX0_init_25 : decode cX0_init 25 = .ok (.newarray .int, 2) := by decide +kernel
theorem dX0_init_27 : decode cX0_init 27 = .ok (.putfield 16, 3) := by decide +kernel
theorem dX0_init_30 : decode cX0_init 30 = .ok (.aload_n 0, 1) := by decide +kernel
theorem dX0_init_31 : decode cX0_init 31 = .ok (.bipush 7, 2) := by decide +kernel
theorem dX0_init_33 : decode cX0_init 33 = .ok (.newarray .byte, 2) := by decide +kernel
theorem dX0_init_35 : decode cX0_init 35 = .ok (.putfield 20, 3) := by decide +kernel
theorem dX0_init_38 : decode cX0_init 38 = .ok (.aload_n 0, 1) := by decide +kernel
theorem dX0_init_39 : decode cX0_init 39 = .ok (.bipush 36, 2) := by decide +kernel
theorem dX0_init_41 : decode cX0_init 41 = .ok (.newarray .byte, 2) := by decide +kernel
theorem dX0_init_43 : decode cX0_init 43 = .ok (.putfield 23, 3) := by decide +kernel
theorem dX0_init_46 : decode cX0_init 46 = .ok (.aload_n 0, 1) := by decide +kernel
theorem dX0_init_47 : decode cX0_init 47 = .ok (.bipush 36, 2) := by decide +kernel
theorem dX0_init_49 : decode cX0_init 49 = .ok (.newarray .int, 2) := by decide +kernel
theorem dX0_init_51 : decode cX0_init 51 = .ok (.putfield 26, 3) := by decide +kernel
theorem dX0_init_54 : decode cX0_init 54 = .ok (.aload_n 0, 1) := by decide +kernel
theorem dX0_init_55 : decode cX0_init 55 = .ok (.bipush 6, 2) := by decide +kernel
theorem dX0_init_57 : decode cX0_init 57 = .ok (.newarray .int, 2) := by decide +kernel
theorem dX0_init_59 : decode cX0_init 59 = .ok (.putfield 29, 3) := by decide +kernel
theorem dX0_init_62 : decode cX0_init 62 = .ok (.return_, 1) := by decide +kernel
theorem dX0_put_0 : decode cX0_put 0 = .ok (.iload_n 1, 1) := by decide +kernel
theorem dX0_put_1 : decode cX0_put 1 = .ok (.invokestatic 40, 3) := by decide +kernel
theorem dX0_put_4 : decode cX0_put 4 = .ok (.ifCond .eq 17, 3) := by decide +kernel
theorem dX0_put_7 : decode cX0_put 7 = .ok (.iload_n 2, 1) := by decide +kernel
theorem dX0_put_8 : decode cX0_put 8 = .ok (.invokestatic 44, 3) := by decide +kernel
theorem dX0_put_11 : decode cX0_put 11 = .ok (.ifCond .eq 10, 3) := by decide +kernel
theorem dX0_put_14 : decode cX0_put 14 = .ok (.iload_n 3, 1) := by decide +kernel
theorem dX0_put_15 : decode cX0_put 15 = .ok (.invokestatic 44, 3) := by decide +kernel
theorem dX0_put_18 : decode cX0_put 18 = .ok (.ifCond .ne 5, 3) := by decide +kernel
theorem dX0_put_21 : decode cX0_put 21 = .ok (.iconst 0, 1) := by decide +kernel
theorem dX0_put_22 : decode cX0_put 22 = .ok (.ireturn, 1) := by decide +kernel
theorem dX0_put_23 : decode cX0_put 23 = .ok (.aload_n 0, 1) := by decide +kernel
theorem dX0_put_24 : decode cX0_put 24 = .ok (.invokevirtual 47, 3) := by decide +kernel
theorem dX0_put_27 : decode cX0_put 27 = .ok (.iconst 0, 1) := by decide +kernel
theorem dX0_put_28 : decode cX0_put 28 = .ok (.istore 5, 2) := by decide +kernel
theorem dX0_put_30 : decode cX0_put 30 = .ok (.iload 5, 2) := by decide +kernel
theorem dX0_put_32 : decode cX0_put 32 = .ok (.bipush 6, 2) := by decide +kernel
theorem dX0_put_34 : decode cX0_put 34 = .ok (.if_icmp .ge 83, 3) := by decide +kernel
theorem dX0_put_37 : decode cX0_put 37 = .ok (.aload_n 0, 1) := by decide +kernel
theorem dX0_put_38 : decode cX0_put 38 = .ok (.invokevirtual 50, 3) := by decide +kernel
theorem dX0_put_41 : decode cX0_put 41 = .ok (.aload_n 0, 1) := by decide +kernel
theorem dX0_put_42 : decode cX0_put 42 = .ok (.iload_n 1, 1) := by decide +kernel
theorem dX0_put_43 : decode cX0_put 43 = .ok (.iload 5, 2) := by decide +kernel
theorem dX0_put_45 : decode cX0_put 45 = .ok (.invokevirtual 53, 3) := by decide +kernel
theorem dX0_put_48 : decode cX0_put 48 = .ok (.istore 6, 2) := by decide +kernel
theorem dX0_put_50 : decode cX0_put 50 = .ok (.iload 6, 2) := by decide +kernel
theorem dX0_put_52 : decode cX0_put 52 = .ok (.aload_n 0, 1) := by decide +kernel
theorem dX0_put_53 : decode cX0_put 53 = .ok (.iload_n 1, 1) := by decide +kernel
theorem dX0_put_54 : decode cX0_put 54 = .ok (.iload 5, 2) := by decide +kernel
theorem dX0_put_56 : decode cX0_put 56 = .ok (.invokevirtual 57, 3) := by decide +kernel
theorem dX0_put_59 : decode cX0_put 59 = .ok (.if_icmp .ge 28, 3) := by decide +kernel
theorem dX0_put_62 : decode cX0_put 62 = .ok (.aload_n 0, 1) := by decide +kernel
theorem dX0_put_63 : decode cX0_put 63 = .ok (.getfield 29, 3) := by decide +kernel
theorem dX0_put_66 : decode cX0_put 66 = .ok (.aload_n 0, 1) := by decide +kernel
theorem dX0_put_67 : decode cX0_put 67 = .ok (.getfield 13, 3) := by decide +kernel
theorem dX0_put_70 : decode cX0_put 70 = .ok (.iload 6, 2) := by decide +kernel
theorem dX0_put_72 : decode cX0_put 72 = .ok (.baload, 1) := by decide +kernel
theorem dX0_put_73 : decode cX0_put 73 = .ok (.aload_n 0, 1) := by decide +kernel
theorem dX0_put_74 : decode cX0_put 74 = .ok (.getfield 16, 3) := by decide +kernel
theorem dX0_put_77 : decode cX0_put 77 = .ok (.iload 6, 2) := by decide +kernel
theorem dX0_put_79 : decode cX0_put 79 = .ok (.iaload, 1) := by decide +kernel
theorem dX0_put_80 : decode cX0_put 80 = .ok (.iastore, 1) := by decide +kernel
theorem dX0_put_81 : decode cX0_put 81 = .ok (.iinc 6 1, 3) := by decide +kernel
theorem dX0_put_84 : decode cX0_put 84 = .ok (.goto (-34), 3) := by decide +kernel
theorem dX0_put_87 : decode cX0_put 87 = .ok (.iload 5, 2) := by decide +kernel
theorem dX0_put_89 : decode cX0_put 89 = .ok (.iload_n 2, 1) := by decide +kernel
theorem dX0_put_90 : decode cX0_put 90 = .ok (.if_icmp .ne 11, 3) := by decide +kernel
theorem dX0_put_93 : decode cX0_put 93 = .ok (.aload_n 0, 1) := by decide +kernel
theorem dX0_put_94 : decode cX0_put 94 = .ok (.getfield 29, 3) := by decide +kernel
theorem dX0_put_97 : decode cX0_put 97 = .ok (.iload_n 3, 1) := by decide +kernel
theorem dX0_put_98 : decode cX0_put 98 = .ok (.iload 4, 2) := by decide +kernel
theorem dX0_put_100 : decode cX0_put 100 = .ok (.iastore, 1) := by decide +kernel
theorem dX0_put_101 : decode cX0_put 101 = .ok (.aload_n 0, 1) := by decide +kernel
theorem dX0_put_102 : decode cX0_put 102 = .ok (.invokevirtual 60, 3) := by decide +kernel
theorem dX0_put_105 : decode cX0_put 105 = .ok (.aload_n 0, 1) := by decide +kernel
theorem dX0_put_106 : decode cX0_put 106 = .ok (.iload 5, 2) := by decide +kernel
theorem dX0_put_108 : decode cX0_put 108 = .ok (.invokevirtual 63, 3) := by decide +kernel
theorem dX0_put_111 : decode cX0_put 111 = .ok (.iinc 5 1, 3) := by decide +kernel
theorem dX0_put_114 : decode cX0_put 114 = .ok (.goto (-84), 3) := by decide +kernel
theorem dX0_put_117 : decode cX0_put 117 = .ok (.aload_n 0, 1) := by decide +kernel
theorem dX0_put_118 : decode cX0_put 118 = .ok (.iload_n 1, 1) := by decide +kernel
theorem dX0_put_119 : decode cX0_put 119 = .ok (.invokevirtual 67, 3) := by decide +kernel
theorem dX0_put_122 : decode cX0_put 122 = .ok (.pop, 1) := by decide +kernel
theorem dX0_put_123 : decode cX0_put 123 = .ok (.iconst 1, 1) := by decide +kernel
theorem dX0_put_124 : decode cX0_put 124 = .ok (.ireturn, 1) := by decide +kernel
theorem dX0_isSlot_0 : decode cX0_isSlot 0 = .ok (.iload_n 0, 1) := by decide +kernel
theorem dX0_isSlot_1 : decode cX0_isSlot 1 = .ok (.ifCond .lt 12, 3) := by decide +kernel
theorem dX0_isSlot_4 : decode cX0_isSlot 4 = .ok (.iload_n 0, 1) := by decide +kernel
theorem dX0_isSlot_5 : decode cX0_isSlot 5 = .ok (.iconst 5, 1) := by decide +kernel
theorem dX0_isSlot_6 : decode cX0_isSlot 6 = .ok (.if_icmp .ge 7, 3) := by decide +kernel
theorem dX0_isSlot_9 : decode cX0_isSlot 9 = .ok (.iconst 1, 1) := by decide +kernel
theorem dX0_isSlot_10 : decode cX0_isSlot 10 = .ok (.goto 4, 3) := by decide +kernel
theorem dX0_isSlot_13 : decode cX0_isSlot 13 = .ok (.iconst 0, 1) := by decide +kernel
theorem dX0_isSlot_14 : decode cX0_isSlot 14 = .ok (.ireturn, 1) := by decide +kernel
theorem dX0_isIndex_0 : decode cX0_isIndex 0 = .ok (.iload_n 0, 1) := by decide +kernel
theorem dX0_isIndex_1 : decode cX0_isIndex 1 = .ok (.ifCond .lt 13, 3) := by decide +kernel
theorem dX0_isIndex_4 : decode cX0_isIndex 4 = .ok (.iload_n 0, 1) := by decide +kernel
theorem dX0_isIndex_5 : decode cX0_isIndex 5 = .ok (.bipush 6, 2) := by decide +kernel
theorem dX0_isIndex_7 : decode cX0_isIndex 7 = .ok (.if_icmp .ge 7, 3) := by decide +kernel
theorem dX0_isIndex_10 : decode cX0_isIndex 10 = .ok (.iconst 1, 1) := by decide +kernel
theorem dX0_isIndex_11 : decode cX0_isIndex 11 = .ok (.goto 4, 3) := by decide +kernel
theorem dX0_isIndex_14 : decode cX0_isIndex 14 = .ok (.iconst 0, 1) := by decide +kernel
theorem dX0_isIndex_15 : decode cX0_isIndex 15 = .ok (.ireturn, 1) := by decide +kernel
theorem dX0_begin_0 : decode cX0_begin 0 = .ok (.aload_n 0, 1) := by decide +kernel
theorem dX0_begin_1 : decode cX0_begin 1 = .ok (.iconst 0, 1) := by decide +kernel
theorem dX0_begin_2 : decode cX0_begin 2 = .ok (.putfield 32, 3) := by decide +kernel
theorem dX0_begin_5 : decode cX0_begin 5 = .ok (.aload_n 0, 1) := by decide +kernel
theorem dX0_begin_6 : decode cX0_begin 6 = .ok (.getfield 20, 3) := by decide +kernel
theorem dX0_begin_9 : decode cX0_begin 9 = .ok (.iconst 0, 1) := by decide +kernel
theorem dX0_begin_10 : decode cX0_begin 10 = .ok (.iconst 0, 1) := by decide +kernel
theorem dX0_begin_11 : decode cX0_begin 11 = .ok (.bastore, 1) := by decide +kernel
theorem dX0_begin_12 : decode cX0_begin 12 = .ok (.return_, 1) := by decide +kernel
theorem dX0_clearWork_0 : decode cX0_clearWork 0 = .ok (.iconst 0, 1) := by decide +kernel
theorem dX0_clearWork_1 : decode cX0_clearWork 1 = .ok (.istore_n 1, 1) := by decide +kernel
theorem dX0_clearWork_2 : decode cX0_clearWork 2 = .ok (.iload_n 1, 1) := by decide +kernel
theorem dX0_clearWork_3 : decode cX0_clearWork 3 = .ok (.bipush 6, 2) := by decide +kernel
theorem dX0_clearWork_5 : decode cX0_clearWork 5 = .ok (.if_icmp .ge 16, 3) := by decide +kernel
theorem dX0_clearWork_8 : decode cX0_clearWork 8 = .ok (.aload_n 0, 1) := by decide +kernel
theorem dX0_clearWork_9 : decode cX0_clearWork 9 = .ok (.getfield 29, 3) := by decide +kernel
theorem dX0_clearWork_12 : decode cX0_clearWork 12 = .ok (.iload_n 1, 1) := by decide +kernel
theorem dX0_clearWork_13 : decode cX0_clearWork 13 = .ok (.iconst 0, 1) := by decide +kernel
theorem dX0_clearWork_14 : decode cX0_clearWork 14 = .ok (.iastore, 1) := by decide +kernel
theorem dX0_clearWork_15 : decode cX0_clearWork 15 = .ok (.iinc 1 1, 3) := by decide +kernel
theorem dX0_clearWork_18 : decode cX0_clearWork 18 = .ok (.goto (-16), 3) := by decide +kernel
theorem dX0_clearWork_21 : decode cX0_clearWork 21 = .ok (.return_, 1) := by decide +kernel
theorem dX0_from_0 : decode cX0_from 0 = .ok (.iload_n 1, 1) := by decide +kernel
theorem dX0_from_1 : decode cX0_from 1 = .ok (.bipush 36, 2) := by decide +kernel
theorem dX0_from_3 : decode cX0_from 3 = .ok (.imul, 1) := by decide +kernel
theorem dX0_from_4 : decode cX0_from 4 = .ok (.aload_n 0, 1) := by decide +kernel
theorem dX0_from_5 : decode cX0_from 5 = .ok (.getfield 7, 3) := by decide +kernel
theorem dX0_from_8 : decode cX0_from 8 = .ok (.iload_n 1, 1) := by decide +kernel
theorem dX0_from_9 : decode cX0_from 9 = .ok (.bipush 7, 2) := by decide +kernel
theorem dX0_from_11 : decode cX0_from 11 = .ok (.imul, 1) := by decide +kernel
theorem dX0_from_12 : decode cX0_from 12 = .ok (.iload_n 2, 1) := by decide +kernel
theorem dX0_from_13 : decode cX0_from 13 = .ok (.iadd, 1) := by decide +kernel
theorem dX0_from_14 : decode cX0_from 14 = .ok (.baload, 1) := by decide +kernel
theorem dX0_from_15 : decode cX0_from 15 = .ok (.iadd, 1) := by decide +kernel
theorem dX0_from_16 : decode cX0_from 16 = .ok (.ireturn, 1) := by decide +kernel
theorem dX0_upTo_0 : decode cX0_upTo 0 = .ok (.iload_n 1, 1) := by decide +kernel
theorem dX0_upTo_1 : decode cX0_upTo 1 = .ok (.bipush 36, 2) := by decide +kernel
theorem dX0_upTo_3 : decode cX0_upTo 3 = .ok (.imul, 1) := by decide +kernel
theorem dX0_upTo_4 : decode cX0_upTo 4 = .ok (.aload_n 0, 1) := by decide +kernel
theorem dX0_upTo_5 : decode cX0_upTo 5 = .ok (.getfield 7, 3) := by decide +kernel
theorem dX0_upTo_8 : decode cX0_upTo 8 = .ok (.iload_n 1, 1) := by decide +kernel
theorem dX0_upTo_9 : decode cX0_upTo 9 = .ok (.bipush 7, 2) := by decide +kernel
theorem dX0_upTo_11 : decode cX0_upTo 11 = .ok (.imul, 1) := by decide +kernel
theorem dX0_upTo_12 : decode cX0_upTo 12 = .ok (.iload_n 2, 1) := by decide +kernel
theorem dX0_upTo_13 : decode cX0_upTo 13 = .ok (.iadd, 1) := by decide +kernel
theorem dX0_upTo_14 : decode cX0_upTo 14 = .ok (.iconst 1, 1) := by decide +kernel
theorem dX0_upTo_15 : decode cX0_upTo 15 = .ok (.iadd, 1) := by decide +kernel
theorem dX0_upTo_16 : decode cX0_upTo 16 = .ok (.baload, 1) := by decide +kernel
theorem dX0_upTo_17 : decode cX0_upTo 17 = .ok (.iadd, 1) := by decide +kernel
theorem dX0_upTo_18 : decode cX0_upTo 18 = .ok (.ireturn, 1) := by decide +kernel
theorem dX0_emitWork_0 : decode cX0_emitWork 0 = .ok (.iconst 0, 1) := by decide +kernel
theorem dX0_emitWork_1 : decode cX0_emitWork 1 = .ok (.istore_n 1, 1) := by decide +kernel
theorem dX0_emitWork_2 : decode cX0_emitWork 2 = .ok (.iload_n 1, 1) := by decide +kernel
theorem dX0_emitWork_3 : decode cX0_emitWork 3 = .ok (.bipush 6, 2) := by decide +kernel
theorem dX0_emitWork_5 : decode cX0_emitWork 5 = .ok (.if_icmp .ge 20, 3) := by decide +kernel
theorem dX0_emitWork_8 : decode cX0_emitWork 8 = .ok (.aload_n 0, 1) := by decide +kernel
theorem dX0_emitWork_9 : decode cX0_emitWork 9 = .ok (.iload_n 1, 1) := by decide +kernel
theorem dX0_emitWork_10 : decode cX0_emitWork 10 = .ok (.aload_n 0, 1) := by decide +kernel
theorem dX0_emitWork_11 : decode cX0_emitWork 11 = .ok (.getfield 29, 3) := by decide +kernel
theorem dX0_emitWork_14 : decode cX0_emitWork 14 = .ok (.iload_n 1, 1) := by decide +kernel
theorem dX0_emitWork_15 : decode cX0_emitWork 15 = .ok (.iaload, 1) := by decide +kernel
theorem dX0_emitWork_16 : decode cX0_emitWork 16 = .ok (.invokevirtual 36, 3) := by decide +kernel
theorem dX0_emitWork_19 : decode cX0_emitWork 19 = .ok (.iinc 1 1, 3) := by decide +kernel
theorem dX0_emitWork_22 : decode cX0_emitWork 22 = .ok (.goto (-20), 3) := by decide +kernel
theorem dX0_emitWork_25 : decode cX0_emitWork 25 = .ok (.return_, 1) := by decide +kernel
theorem dX0_emit_0 : decode cX0_emit 0 = .ok (.iload_n 2, 1) := by decide +kernel
theorem dX0_emit_1 : decode cX0_emit 1 = .ok (.ifCond .eq 34, 3) := by decide +kernel
theorem dX0_emit_4 : decode cX0_emit 4 = .ok (.aload_n 0, 1) := by decide +kernel
theorem dX0_emit_5 : decode cX0_emit 5 = .ok (.getfield 23, 3) := by decide +kernel
theorem dX0_emit_8 : decode cX0_emit 8 = .ok (.aload_n 0, 1) := by decide +kernel
theorem dX0_emit_9 : decode cX0_emit 9 = .ok (.getfield 32, 3) := by decide +kernel
theorem dX0_emit_12 : decode cX0_emit 12 = .ok (.iload_n 1, 1) := by decide +kernel
theorem dX0_emit_13 : decode cX0_emit 13 = .ok (.i2b, 1) := by decide +kernel
theorem dX0_emit_14 : decode cX0_emit 14 = .ok (.bastore, 1) := by decide +kernel
theorem dX0_emit_15 : decode cX0_emit 15 = .ok (.aload_n 0, 1) := by decide +kernel
theorem dX0_emit_16 : decode cX0_emit 16 = .ok (.getfield 26, 3) := by decide +kernel
theorem dX0_emit_19 : decode cX0_emit 19 = .ok (.aload_n 0, 1) := by decide +kernel
theorem dX0_emit_20 : decode cX0_emit 20 = .ok (.getfield 32, 3) := by decide +kernel
theorem dX0_emit_23 : decode cX0_emit 23 = .ok (.iload_n 2, 1) := by decide +kernel
theorem dX0_emit_24 : decode cX0_emit 24 = .ok (.iastore, 1) := by decide +kernel
theorem dX0_emit_25 : decode cX0_emit 25 = .ok (.aload_n 0, 1) := by decide +kernel
theorem dX0_emit_26 : decode cX0_emit 26 = .ok (.dup, 1) := by decide +kernel
theorem dX0_emit_27 : decode cX0_emit 27 = .ok (.getfield 32, 3) := by decide +kernel
theorem dX0_emit_30 : decode cX0_emit 30 = .ok (.iconst 1, 1) := by decide +kernel
theorem dX0_emit_31 : decode cX0_emit 31 = .ok (.iadd, 1) := by decide +kernel
theorem dX0_emit_32 : decode cX0_emit 32 = .ok (.putfield 32, 3) := by decide +kernel
theorem dX0_emit_35 : decode cX0_emit 35 = .ok (.return_, 1) := by decide +kernel
theorem dX0_endRow_0 : decode cX0_endRow 0 = .ok (.aload_n 0, 1) := by decide +kernel
theorem dX0_endRow_1 : decode cX0_endRow 1 = .ok (.getfield 20, 3) := by decide +kernel
theorem dX0_endRow_4 : decode cX0_endRow 4 = .ok (.iload_n 1, 1) := by decide +kernel
theorem dX0_endRow_5 : decode cX0_endRow 5 = .ok (.iconst 1, 1) := by decide +kernel
theorem dX0_endRow_6 : decode cX0_endRow 6 = .ok (.iadd, 1) := by decide +kernel
theorem dX0_endRow_7 : decode cX0_endRow 7 = .ok (.aload_n 0, 1) := by decide +kernel
theorem dX0_endRow_8 : decode cX0_endRow 8 = .ok (.getfield 32, 3) := by decide +kernel
theorem dX0_endRow_11 : decode cX0_endRow 11 = .ok (.i2b, 1) := by decide +kernel
theorem dX0_endRow_12 : decode cX0_endRow 12 = .ok (.bastore, 1) := by decide +kernel
theorem dX0_endRow_13 : decode cX0_endRow 13 = .ok (.return_, 1) := by decide +kernel
theorem dX0_store_0 : decode cX0_store 0 = .ok (.iconst 0, 1) := by decide +kernel
theorem dX0_store_1 : decode cX0_store 1 = .ok (.istore_n 2, 1) := by decide +kernel
theorem dX0_store_2 : decode cX0_store 2 = .ok (.iload_n 2, 1) := by decide +kernel
theorem dX0_store_3 : decode cX0_store 3 = .ok (.bipush 6, 2) := by decide +kernel
theorem dX0_store_5 : decode cX0_store 5 = .ok (.if_icmp .gt 26, 3) := by decide +kernel
theorem dX0_store_8 : decode cX0_store 8 = .ok (.aload_n 0, 1) := by decide +kernel
theorem dX0_store_9 : decode cX0_store 9 = .ok (.getfield 7, 3) := by decide +kernel
theorem dX0_store_12 : decode cX0_store 12 = .ok (.iload_n 1, 1) := by decide +kernel
theorem dX0_store_13 : decode cX0_store 13 = .ok (.bipush 7, 2) := by decide +kernel
theorem dX0_store_15 : decode cX0_store 15 = .ok (.imul, 1) := by decide +kernel
theorem dX0_store_16 : decode cX0_store 16 = .ok (.iload_n 2, 1) := by decide +kernel
theorem dX0_store_17 : decode cX0_store 17 = .ok (.iadd, 1) := by decide +kernel
theorem dX0_store_18 : decode cX0_store 18 = .ok (.aload_n 0, 1) := by decide +kernel
theorem dX0_store_19 : decode cX0_store 19 = .ok (.getfield 20, 3) := by decide +kernel
theorem dX0_store_22 : decode cX0_store 22 = .ok (.iload_n 2, 1) := by decide +kernel
theorem dX0_store_23 : decode cX0_store 23 = .ok (.baload, 1) := by decide +kernel
theorem dX0_store_24 : decode cX0_store 24 = .ok (.bastore, 1) := by decide +kernel
theorem dX0_store_25 : decode cX0_store 25 = .ok (.iinc 2 1, 3) := by decide +kernel
theorem dX0_store_28 : decode cX0_store 28 = .ok (.goto (-26), 3) := by decide +kernel
theorem dX0_store_31 : decode cX0_store 31 = .ok (.iconst 0, 1) := by decide +kernel
theorem dX0_store_32 : decode cX0_store 32 = .ok (.istore_n 2, 1) := by decide +kernel
theorem dX0_store_33 : decode cX0_store 33 = .ok (.iload_n 2, 1) := by decide +kernel
theorem dX0_store_34 : decode cX0_store 34 = .ok (.aload_n 0, 1) := by decide +kernel
theorem dX0_store_35 : decode cX0_store 35 = .ok (.getfield 32, 3) := by decide +kernel
theorem dX0_store_38 : decode cX0_store 38 = .ok (.if_icmp .ge 43, 3) := by decide +kernel
theorem dX0_store_41 : decode cX0_store 41 = .ok (.aload_n 0, 1) := by decide +kernel
theorem dX0_store_42 : decode cX0_store 42 = .ok (.getfield 13, 3) := by decide +kernel
theorem dX0_store_45 : decode cX0_store 45 = .ok (.iload_n 1, 1) := by decide +kernel
theorem dX0_store_46 : decode cX0_store 46 = .ok (.bipush 36, 2) := by decide +kernel
theorem dX0_store_48 : decode cX0_store 48 = .ok (.imul, 1) := by decide +kernel
theorem dX0_store_49 : decode cX0_store 49 = .ok (.iload_n 2, 1) := by decide +kernel
theorem dX0_store_50 : decode cX0_store 50 = .ok (.iadd, 1) := by decide +kernel
theorem dX0_store_51 : decode cX0_store 51 = .ok (.aload_n 0, 1) := by decide +kernel
theorem dX0_store_52 : decode cX0_store 52 = .ok (.getfield 23, 3) := by decide +kernel
theorem dX0_store_55 : decode cX0_store 55 = .ok (.iload_n 2, 1) := by decide +kernel
theorem dX0_store_56 : decode cX0_store 56 = .ok (.baload, 1) := by decide +kernel
theorem dX0_store_57 : decode cX0_store 57 = .ok (.bastore, 1) := by decide +kernel
theorem dX0_store_58 : decode cX0_store 58 = .ok (.aload_n 0, 1) := by decide +kernel
theorem dX0_store_59 : decode cX0_store 59 = .ok (.getfield 16, 3) := by decide +kernel
theorem dX0_store_62 : decode cX0_store 62 = .ok (.iload_n 1, 1) := by decide +kernel
theorem dX0_store_63 : decode cX0_store 63 = .ok (.bipush 36, 2) := by decide +kernel
theorem dX0_store_65 : decode cX0_store 65 = .ok (.imul, 1) := by decide +kernel
theorem dX0_store_66 : decode cX0_store 66 = .ok (.iload_n 2, 1) := by decide +kernel
theorem dX0_store_67 : decode cX0_store 67 = .ok (.iadd, 1) := by decide +kernel
theorem dX0_store_68 : decode cX0_store 68 = .ok (.aload_n 0, 1) := by decide +kernel
theorem dX0_store_69 : decode cX0_store 69 = .ok (.getfield 26, 3) := by decide +kernel
theorem dX0_store_72 : decode cX0_store 72 = .ok (.iload_n 2, 1) := by decide +kernel
theorem dX0_store_73 : decode cX0_store 73 = .ok (.iaload, 1) := by decide +kernel
theorem dX0_store_74 : decode cX0_store 74 = .ok (.iastore, 1) := by decide +kernel
theorem dX0_store_75 : decode cX0_store 75 = .ok (.iinc 2 1, 3) := by decide +kernel
theorem dX0_store_78 : decode cX0_store 78 = .ok (.goto (-45), 3) := by decide +kernel
theorem dX0_store_81 : decode cX0_store 81 = .ok (.aload_n 0, 1) := by decide +kernel
theorem dX0_store_82 : decode cX0_store 82 = .ok (.getfield 32, 3) := by decide +kernel
theorem dX0_store_85 : decode cX0_store 85 = .ok (.ireturn, 1) := by decide +kernel
theorem dX0_add_0 : decode cX0_add 0 = .ok (.iload_n 1, 1) := by decide +kernel
theorem dX0_add_1 : decode cX0_add 1 = .ok (.invokestatic 40, 3) := by decide +kernel
theorem dX0_add_4 : decode cX0_add 4 = .ok (.ifCond .eq 17, 3) := by decide +kernel
theorem dX0_add_7 : decode cX0_add 7 = .ok (.iload_n 2, 1) := by decide +kernel
theorem dX0_add_8 : decode cX0_add 8 = .ok (.invokestatic 40, 3) := by decide +kernel
theorem dX0_add_11 : decode cX0_add 11 = .ok (.ifCond .eq 10, 3) := by decide +kernel
theorem dX0_add_14 : decode cX0_add 14 = .ok (.iload_n 3, 1) := by decide +kernel
theorem dX0_add_15 : decode cX0_add 15 = .ok (.invokestatic 40, 3) := by decide +kernel
theorem dX0_add_18 : decode cX0_add 18 = .ok (.ifCond .ne 5, 3) := by decide +kernel
theorem dX0_add_21 : decode cX0_add 21 = .ok (.iconst (-1), 1) := by decide +kernel
theorem dX0_add_22 : decode cX0_add 22 = .ok (.ireturn, 1) := by decide +kernel
theorem dX0_add_23 : decode cX0_add 23 = .ok (.aload_n 0, 1) := by decide +kernel
theorem dX0_add_24 : decode cX0_add 24 = .ok (.invokevirtual 47, 3) := by decide +kernel
theorem dX0_add_27 : decode cX0_add 27 = .ok (.iconst 0, 1) := by decide +kernel
theorem dX0_add_28 : decode cX0_add 28 = .ok (.istore 4, 2) := by decide +kernel
theorem dX0_add_30 : decode cX0_add 30 = .ok (.iload 4, 2) := by decide +kernel
theorem dX0_add_32 : decode cX0_add 32 = .ok (.bipush 6, 2) := by decide +kernel
theorem dX0_add_34 : decode cX0_add 34 = .ok (.if_icmp .ge 23, 3) := by decide +kernel
theorem dX0_add_37 : decode cX0_add 37 = .ok (.aload_n 0, 1) := by decide +kernel
theorem dX0_add_38 : decode cX0_add 38 = .ok (.iload_n 2, 1) := by decide +kernel
theorem dX0_add_39 : decode cX0_add 39 = .ok (.iload_n 3, 1) := by decide +kernel
theorem dX0_add_40 : decode cX0_add 40 = .ok (.iload 4, 2) := by decide +kernel
theorem dX0_add_42 : decode cX0_add 42 = .ok (.invokevirtual 71, 3) := by decide +kernel
theorem dX0_add_45 : decode cX0_add 45 = .ok (.aload_n 0, 1) := by decide +kernel
theorem dX0_add_46 : decode cX0_add 46 = .ok (.iload 4, 2) := by decide +kernel
theorem dX0_add_48 : decode cX0_add 48 = .ok (.invokevirtual 63, 3) := by decide +kernel
theorem dX0_add_51 : decode cX0_add 51 = .ok (.iinc 4 1, 3) := by decide +kernel
theorem dX0_add_54 : decode cX0_add 54 = .ok (.goto (-24), 3) := by decide +kernel
theorem dX0_add_57 : decode cX0_add 57 = .ok (.aload_n 0, 1) := by decide +kernel
theorem dX0_add_58 : decode cX0_add 58 = .ok (.iload_n 1, 1) := by decide +kernel
theorem dX0_add_59 : decode cX0_add 59 = .ok (.invokevirtual 67, 3) := by decide +kernel
theorem dX0_add_62 : decode cX0_add 62 = .ok (.ireturn, 1) := by decide +kernel
theorem dX0_mergeRow_0 : decode cX0_mergeRow 0 = .ok (.aload_n 0, 1) := by decide +kernel
theorem dX0_mergeRow_1 : decode cX0_mergeRow 1 = .ok (.iload_n 1, 1) := by decide +kernel
theorem dX0_mergeRow_2 : decode cX0_mergeRow 2 = .ok (.iload_n 3, 1) := by decide +kernel
theorem dX0_mergeRow_3 : decode cX0_mergeRow 3 = .ok (.invokevirtual 53, 3) := by decide +kernel
theorem dX0_mergeRow_6 : decode cX0_mergeRow 6 = .ok (.istore 4, 2) := by decide +kernel
theorem dX0_mergeRow_8 : decode cX0_mergeRow 8 = .ok (.aload_n 0, 1) := by decide +kernel
theorem dX0_mergeRow_9 : decode cX0_mergeRow 9 = .ok (.iload_n 2, 1) := by decide +kernel
theorem dX0_mergeRow_10 : decode cX0_mergeRow 10 = .ok (.iload_n 3, 1) := by decide +kernel
theorem dX0_mergeRow_11 : decode cX0_mergeRow 11 = .ok (.invokevirtual 53, 3) := by decide +kernel
theorem dX0_mergeRow_14 : decode cX0_mergeRow 14 = .ok (.istore 5, 2) := by decide +kernel
theorem dX0_mergeRow_16 : decode cX0_mergeRow 16 = .ok (.aload_n 0, 1) := by decide +kernel
theorem dX0_mergeRow_17 : decode cX0_mergeRow 17 = .ok (.iload_n 1, 1) := by decide +kernel
theorem dX0_mergeRow_18 : decode cX0_mergeRow 18 = .ok (.iload_n 3, 1) := by decide +kernel
theorem dX0_mergeRow_19 : decode cX0_mergeRow 19 = .ok (.invokevirtual 57, 3) := by decide +kernel
theorem dX0_mergeRow_22 : decode cX0_mergeRow 22 = .ok (.istore 6, 2) := by decide +kernel
theorem dX0_mergeRow_24 : decode cX0_mergeRow 24 = .ok (.aload_n 0, 1) := by decide +kernel
theorem dX0_mergeRow_25 : decode cX0_mergeRow 25 = .ok (.iload_n 2, 1) := by decide +kernel
theorem dX0_mergeRow_26 : decode cX0_mergeRow 26 = .ok (.iload_n 3, 1) := by decide +kernel
theorem dX0_mergeRow_27 : decode cX0_mergeRow 27 = .ok (.invokevirtual 57, 3) := by decide +kernel
theorem dX0_mergeRow_30 : decode cX0_mergeRow 30 = .ok (.istore 7, 2) := by decide +kernel
theorem dX0_mergeRow_32 : decode cX0_mergeRow 32 = .ok (.iload 4, 2) := by decide +kernel
theorem dX0_mergeRow_34 : decode cX0_mergeRow 34 = .ok (.iload 6, 2) := by decide +kernel
theorem dX0_mergeRow_36 : decode cX0_mergeRow 36 = .ok (.if_icmp .lt 10, 3) := by decide +kernel
theorem dX0_mergeRow_39 : decode cX0_mergeRow 39 = .ok (.iload 5, 2) := by decide +kernel
theorem dX0_mergeRow_41 : decode cX0_mergeRow 41 = .ok (.iload 7, 2) := by decide +kernel
theorem dX0_mergeRow_43 : decode cX0_mergeRow 43 = .ok (.if_icmp .ge 119, 3) := by decide +kernel
theorem dX0_mergeRow_46 : decode cX0_mergeRow 46 = .ok (.iload 4, 2) := by decide +kernel
theorem dX0_mergeRow_48 : decode cX0_mergeRow 48 = .ok (.iload 6, 2) := by decide +kernel
theorem dX0_mergeRow_50 : decode cX0_mergeRow 50 = .ok (.if_icmp .ge 13, 3) := by decide +kernel
theorem dX0_mergeRow_53 : decode cX0_mergeRow 53 = .ok (.aload_n 0, 1) := by decide +kernel
theorem dX0_mergeRow_54 : decode cX0_mergeRow 54 = .ok (.getfield 13, 3) := by decide +kernel
theorem dX0_mergeRow_57 : decode cX0_mergeRow 57 = .ok (.iload 4, 2) := by decide +kernel
theorem dX0_mergeRow_59 : decode cX0_mergeRow 59 = .ok (.baload, 1) := by decide +kernel
theorem dX0_mergeRow_60 : decode cX0_mergeRow 60 = .ok (.goto 5, 3) := by decide +kernel
theorem dX0_mergeRow_63 : decode cX0_mergeRow 63 = .ok (.bipush 6, 2) := by decide +kernel
theorem dX0_mergeRow_65 : decode cX0_mergeRow 65 = .ok (.istore 8, 2) := by decide +kernel
theorem dX0_mergeRow_67 : decode cX0_mergeRow 67 = .ok (.iload 5, 2) := by decide +kernel
theorem dX0_mergeRow_69 : decode cX0_mergeRow 69 = .ok (.iload 7, 2) := by decide +kernel
theorem dX0_mergeRow_71 : decode cX0_mergeRow 71 = .ok (.if_icmp .ge 13, 3) := by decide +kernel
theorem dX0_mergeRow_74 : decode cX0_mergeRow 74 = .ok (.aload_n 0, 1) := by decide +kernel
theorem dX0_mergeRow_75 : decode cX0_mergeRow 75 = .ok (.getfield 13, 3) := by decide +kernel
theorem dX0_mergeRow_78 : decode cX0_mergeRow 78 = .ok (.iload 5, 2) := by decide +kernel
theorem dX0_mergeRow_80 : decode cX0_mergeRow 80 = .ok (.baload, 1) := by decide +kernel
theorem dX0_mergeRow_81 : decode cX0_mergeRow 81 = .ok (.goto 5, 3) := by decide +kernel
theorem dX0_mergeRow_84 : decode cX0_mergeRow 84 = .ok (.bipush 6, 2) := by decide +kernel
theorem dX0_mergeRow_86 : decode cX0_mergeRow 86 = .ok (.istore 9, 2) := by decide +kernel
theorem dX0_mergeRow_88 : decode cX0_mergeRow 88 = .ok (.iload 8, 2) := by decide +kernel
theorem dX0_mergeRow_90 : decode cX0_mergeRow 90 = .ok (.iload 9, 2) := by decide +kernel
theorem dX0_mergeRow_92 : decode cX0_mergeRow 92 = .ok (.if_icmp .ge 8, 3) := by decide +kernel
theorem dX0_mergeRow_95 : decode cX0_mergeRow 95 = .ok (.iload 8, 2) := by decide +kernel
theorem dX0_mergeRow_97 : decode cX0_mergeRow 97 = .ok (.goto 5, 3) := by decide +kernel
theorem dX0_mergeRow_100 : decode cX0_mergeRow 100 = .ok (.iload 9, 2) := by decide +kernel
theorem dX0_mergeRow_102 : decode cX0_mergeRow 102 = .ok (.istore 10, 2) := by decide +kernel
theorem dX0_mergeRow_104 : decode cX0_mergeRow 104 = .ok (.iconst 0, 1) := by decide +kernel
theorem dX0_mergeRow_105 : decode cX0_mergeRow 105 = .ok (.istore 11, 2) := by decide +kernel
theorem dX0_mergeRow_107 : decode cX0_mergeRow 107 = .ok (.iload 8, 2) := by decide +kernel
theorem dX0_mergeRow_109 : decode cX0_mergeRow 109 = .ok (.iload 10, 2) := by decide +kernel
theorem dX0_mergeRow_111 : decode cX0_mergeRow 111 = .ok (.if_icmp .ne 18, 3) := by decide +kernel
theorem dX0_mergeRow_114 : decode cX0_mergeRow 114 = .ok (.iload 11, 2) := by decide +kernel
theorem dX0_mergeRow_116 : decode cX0_mergeRow 116 = .ok (.aload_n 0, 1) := by decide +kernel
theorem dX0_mergeRow_117 : decode cX0_mergeRow 117 = .ok (.getfield 16, 3) := by decide +kernel
theorem dX0_mergeRow_120 : decode cX0_mergeRow 120 = .ok (.iload 4, 2) := by decide +kernel
theorem dX0_mergeRow_122 : decode cX0_mergeRow 122 = .ok (.iaload, 1) := by decide +kernel
theorem dX0_mergeRow_123 : decode cX0_mergeRow 123 = .ok (.iadd, 1) := by decide +kernel
theorem dX0_mergeRow_124 : decode cX0_mergeRow 124 = .ok (.istore 11, 2) := by decide +kernel
theorem dX0_mergeRow_126 : decode cX0_mergeRow 126 = .ok (.iinc 4 1, 3) := by decide +kernel
theorem dX0_mergeRow_129 : decode cX0_mergeRow 129 = .ok (.iload 9, 2) := by decide +kernel
theorem dX0_mergeRow_131 : decode cX0_mergeRow 131 = .ok (.iload 10, 2) := by decide +kernel
theorem dX0_mergeRow_133 : decode cX0_mergeRow 133 = .ok (.if_icmp .ne 18, 3) := by decide +kernel
theorem dX0_mergeRow_136 : decode cX0_mergeRow 136 = .ok (.iload 11, 2) := by decide +kernel
theorem dX0_mergeRow_138 : decode cX0_mergeRow 138 = .ok (.aload_n 0, 1) := by decide +kernel
theorem dX0_mergeRow_139 : decode cX0_mergeRow 139 = .ok (.getfield 16, 3) := by decide +kernel
theorem dX0_mergeRow_142 : decode cX0_mergeRow 142 = .ok (.iload 5, 2) := by decide +kernel
theorem dX0_mergeRow_144 : decode cX0_mergeRow 144 = .ok (.iaload, 1) := by decide +kernel
theorem dX0_mergeRow_145 : decode cX0_mergeRow 145 = .ok (.iadd, 1) := by decide +kernel
theorem dX0_mergeRow_146 : decode cX0_mergeRow 146 = .ok (.istore 11, 2) := by decide +kernel
theorem dX0_mergeRow_148 : decode cX0_mergeRow 148 = .ok (.iinc 5 1, 3) := by decide +kernel
theorem dX0_mergeRow_151 : decode cX0_mergeRow 151 = .ok (.aload_n 0, 1) := by decide +kernel
theorem dX0_mergeRow_152 : decode cX0_mergeRow 152 = .ok (.iload 10, 2) := by decide +kernel
theorem dX0_mergeRow_154 : decode cX0_mergeRow 154 = .ok (.iload 11, 2) := by decide +kernel
theorem dX0_mergeRow_156 : decode cX0_mergeRow 156 = .ok (.invokevirtual 36, 3) := by decide +kernel
theorem dX0_mergeRow_159 : decode cX0_mergeRow 159 = .ok (.goto (-127), 3) := by decide +kernel
theorem dX0_mergeRow_162 : decode cX0_mergeRow 162 = .ok (.return_, 1) := by decide +kernel
theorem dX0_entrywise_0 : decode cX0_entrywise 0 = .ok (.iload_n 1, 1) := by decide +kernel
theorem dX0_entrywise_1 : decode cX0_entrywise 1 = .ok (.invokestatic 40, 3) := by decide +kernel
theorem dX0_entrywise_4 : decode cX0_entrywise 4 = .ok (.ifCond .eq 17, 3) := by decide +kernel
theorem dX0_entrywise_7 : decode cX0_entrywise 7 = .ok (.iload_n 2, 1) := by decide +kernel
theorem dX0_entrywise_8 : decode cX0_entrywise 8 = .ok (.invokestatic 40, 3) := by decide +kernel
theorem dX0_entrywise_11 : decode cX0_entrywise 11 = .ok (.ifCond .eq 10, 3) := by decide +kernel
theorem dX0_entrywise_14 : decode cX0_entrywise 14 = .ok (.iload_n 3, 1) := by decide +kernel
theorem dX0_entrywise_15 : decode cX0_entrywise 15 = .ok (.invokestatic 40, 3) := by decide +kernel
theorem dX0_entrywise_18 : decode cX0_entrywise 18 = .ok (.ifCond .ne 5, 3) := by decide +kernel
theorem dX0_entrywise_21 : decode cX0_entrywise 21 = .ok (.iconst (-1), 1) := by decide +kernel
theorem dX0_entrywise_22 : decode cX0_entrywise 22 = .ok (.ireturn, 1) := by decide +kernel
theorem dX0_entrywise_23 : decode cX0_entrywise 23 = .ok (.aload_n 0, 1) := by decide +kernel
theorem dX0_entrywise_24 : decode cX0_entrywise 24 = .ok (.invokevirtual 47, 3) := by decide +kernel
theorem dX0_entrywise_27 : decode cX0_entrywise 27 = .ok (.iconst 0, 1) := by decide +kernel
theorem dX0_entrywise_28 : decode cX0_entrywise 28 = .ok (.istore 4, 2) := by decide +kernel
theorem dX0_entrywise_30 : decode cX0_entrywise 30 = .ok (.iload 4, 2) := by decide +kernel
theorem dX0_entrywise_32 : decode cX0_entrywise 32 = .ok (.bipush 6, 2) := by decide +kernel
theorem dX0_entrywise_34 : decode cX0_entrywise 34 = .ok (.if_icmp .ge 23, 3) := by decide +kernel
theorem dX0_entrywise_37 : decode cX0_entrywise 37 = .ok (.aload_n 0, 1) := by decide +kernel
theorem dX0_entrywise_38 : decode cX0_entrywise 38 = .ok (.iload_n 2, 1) := by decide +kernel
theorem dX0_entrywise_39 : decode cX0_entrywise 39 = .ok (.iload_n 3, 1) := by decide +kernel
theorem dX0_entrywise_40 : decode cX0_entrywise 40 = .ok (.iload 4, 2) := by decide +kernel
theorem dX0_entrywise_42 : decode cX0_entrywise 42 = .ok (.invokevirtual 75, 3) := by decide +kernel
theorem dX0_entrywise_45 : decode cX0_entrywise 45 = .ok (.aload_n 0, 1) := by decide +kernel
theorem dX0_entrywise_46 : decode cX0_entrywise 46 = .ok (.iload 4, 2) := by decide +kernel
theorem dX0_entrywise_48 : decode cX0_entrywise 48 = .ok (.invokevirtual 63, 3) := by decide +kernel
theorem dX0_entrywise_51 : decode cX0_entrywise 51 = .ok (.iinc 4 1, 3) := by decide +kernel
theorem dX0_entrywise_54 : decode cX0_entrywise 54 = .ok (.goto (-24), 3) := by decide +kernel
theorem dX0_entrywise_57 : decode cX0_entrywise 57 = .ok (.aload_n 0, 1) := by decide +kernel
theorem dX0_entrywise_58 : decode cX0_entrywise 58 = .ok (.iload_n 1, 1) := by decide +kernel
theorem dX0_entrywise_59 : decode cX0_entrywise 59 = .ok (.invokevirtual 67, 3) := by decide +kernel
theorem dX0_entrywise_62 : decode cX0_entrywise 62 = .ok (.ireturn, 1) := by decide +kernel
theorem dX0_crossRow_0 : decode cX0_crossRow 0 = .ok (.aload_n 0, 1) := by decide +kernel
theorem dX0_crossRow_1 : decode cX0_crossRow 1 = .ok (.iload_n 1, 1) := by decide +kernel
theorem dX0_crossRow_2 : decode cX0_crossRow 2 = .ok (.iload_n 3, 1) := by decide +kernel
theorem dX0_crossRow_3 : decode cX0_crossRow 3 = .ok (.invokevirtual 53, 3) := by decide +kernel
theorem dX0_crossRow_6 : decode cX0_crossRow 6 = .ok (.istore 4, 2) := by decide +kernel
theorem dX0_crossRow_8 : decode cX0_crossRow 8 = .ok (.aload_n 0, 1) := by decide +kernel
theorem dX0_crossRow_9 : decode cX0_crossRow 9 = .ok (.iload_n 2, 1) := by decide +kernel
theorem dX0_crossRow_10 : decode cX0_crossRow 10 = .ok (.iload_n 3, 1) := by decide +kernel
end
section
set_option maxRecDepth 100000
theorem dX0_crossRow_11 : decode cX0_crossRow 11 = .ok (.invokevirtual 53, 3) := by decide +kernel
theorem dX0_crossRow_14 : decode cX0_crossRow 14 = .ok (.istore 5, 2) := by decide +kernel
theorem dX0_crossRow_16 : decode cX0_crossRow 16 = .ok (.aload_n 0, 1) := by decide +kernel
theorem dX0_crossRow_17 : decode cX0_crossRow 17 = .ok (.iload_n 1, 1) := by decide +kernel
theorem dX0_crossRow_18 : decode cX0_crossRow 18 = .ok (.iload_n 3, 1) := by decide +kernel
theorem dX0_crossRow_19 : decode cX0_crossRow 19 = .ok (.invokevirtual 57, 3) := by decide +kernel
theorem dX0_crossRow_22 : decode cX0_crossRow 22 = .ok (.istore 6, 2) := by decide +kernel
theorem dX0_crossRow_24 : decode cX0_crossRow 24 = .ok (.aload_n 0, 1) := by decide +kernel
theorem dX0_crossRow_25 : decode cX0_crossRow 25 = .ok (.iload_n 2, 1) := by decide +kernel
theorem dX0_crossRow_26 : decode cX0_crossRow 26 = .ok (.iload_n 3, 1) := by decide +kernel
theorem dX0_crossRow_27 : decode cX0_crossRow 27 = .ok (.invokevirtual 57, 3) := by decide +kernel
theorem dX0_crossRow_30 : decode cX0_crossRow 30 = .ok (.istore 7, 2) := by decide +kernel
theorem dX0_crossRow_32 : decode cX0_crossRow 32 = .ok (.iload 4, 2) := by decide +kernel
theorem dX0_crossRow_34 : decode cX0_crossRow 34 = .ok (.iload 6, 2) := by decide +kernel
theorem dX0_crossRow_36 : decode cX0_crossRow 36 = .ok (.if_icmp .ge 91, 3) := by decide +kernel
theorem dX0_crossRow_39 : decode cX0_crossRow 39 = .ok (.iload 5, 2) := by decide +kernel
theorem dX0_crossRow_41 : decode cX0_crossRow 41 = .ok (.iload 7, 2) := by decide +kernel
theorem dX0_crossRow_43 : decode cX0_crossRow 43 = .ok (.if_icmp .ge 84, 3) := by decide +kernel
theorem dX0_crossRow_46 : decode cX0_crossRow 46 = .ok (.aload_n 0, 1) := by decide +kernel
theorem dX0_crossRow_47 : decode cX0_crossRow 47 = .ok (.getfield 13, 3) := by decide +kernel
theorem dX0_crossRow_50 : decode cX0_crossRow 50 = .ok (.iload 4, 2) := by decide +kernel
theorem dX0_crossRow_52 : decode cX0_crossRow 52 = .ok (.baload, 1) := by decide +kernel
theorem dX0_crossRow_53 : decode cX0_crossRow 53 = .ok (.aload_n 0, 1) := by decide +kernel
theorem dX0_crossRow_54 : decode cX0_crossRow 54 = .ok (.getfield 13, 3) := by decide +kernel
theorem dX0_crossRow_57 : decode cX0_crossRow 57 = .ok (.iload 5, 2) := by decide +kernel
theorem dX0_crossRow_59 : decode cX0_crossRow 59 = .ok (.baload, 1) := by decide +kernel
theorem dX0_crossRow_60 : decode cX0_crossRow 60 = .ok (.if_icmp .ne 38, 3) := by decide +kernel
theorem dX0_crossRow_63 : decode cX0_crossRow 63 = .ok (.aload_n 0, 1) := by decide +kernel
theorem dX0_crossRow_64 : decode cX0_crossRow 64 = .ok (.aload_n 0, 1) := by decide +kernel
theorem dX0_crossRow_65 : decode cX0_crossRow 65 = .ok (.getfield 13, 3) := by decide +kernel
theorem dX0_crossRow_68 : decode cX0_crossRow 68 = .ok (.iload 4, 2) := by decide +kernel
theorem dX0_crossRow_70 : decode cX0_crossRow 70 = .ok (.baload, 1) := by decide +kernel
theorem dX0_crossRow_71 : decode cX0_crossRow 71 = .ok (.aload_n 0, 1) := by decide +kernel
theorem dX0_crossRow_72 : decode cX0_crossRow 72 = .ok (.getfield 16, 3) := by decide +kernel
theorem dX0_crossRow_75 : decode cX0_crossRow 75 = .ok (.iload 4, 2) := by decide +kernel
theorem dX0_crossRow_77 : decode cX0_crossRow 77 = .ok (.iaload, 1) := by decide +kernel
theorem dX0_crossRow_78 : decode cX0_crossRow 78 = .ok (.aload_n 0, 1) := by decide +kernel
theorem dX0_crossRow_79 : decode cX0_crossRow 79 = .ok (.getfield 16, 3) := by decide +kernel
theorem dX0_crossRow_82 : decode cX0_crossRow 82 = .ok (.iload 5, 2) := by decide +kernel
theorem dX0_crossRow_84 : decode cX0_crossRow 84 = .ok (.iaload, 1) := by decide +kernel
theorem dX0_crossRow_85 : decode cX0_crossRow 85 = .ok (.imul, 1) := by decide +kernel
theorem dX0_crossRow_86 : decode cX0_crossRow 86 = .ok (.invokevirtual 36, 3) := by decide +kernel
theorem dX0_crossRow_89 : decode cX0_crossRow 89 = .ok (.iinc 4 1, 3) := by decide +kernel
theorem dX0_crossRow_92 : decode cX0_crossRow 92 = .ok (.iinc 5 1, 3) := by decide +kernel
theorem dX0_crossRow_95 : decode cX0_crossRow 95 = .ok (.goto (-63), 3) := by decide +kernel
theorem dX0_crossRow_98 : decode cX0_crossRow 98 = .ok (.aload_n 0, 1) := by decide +kernel
theorem dX0_crossRow_99 : decode cX0_crossRow 99 = .ok (.getfield 13, 3) := by decide +kernel
theorem dX0_crossRow_102 : decode cX0_crossRow 102 = .ok (.iload 4, 2) := by decide +kernel
theorem dX0_crossRow_104 : decode cX0_crossRow 104 = .ok (.baload, 1) := by decide +kernel
theorem dX0_crossRow_105 : decode cX0_crossRow 105 = .ok (.aload_n 0, 1) := by decide +kernel
theorem dX0_crossRow_106 : decode cX0_crossRow 106 = .ok (.getfield 13, 3) := by decide +kernel
theorem dX0_crossRow_109 : decode cX0_crossRow 109 = .ok (.iload 5, 2) := by decide +kernel
theorem dX0_crossRow_111 : decode cX0_crossRow 111 = .ok (.baload, 1) := by decide +kernel
theorem dX0_crossRow_112 : decode cX0_crossRow 112 = .ok (.if_icmp .ge 9, 3) := by decide +kernel
theorem dX0_crossRow_115 : decode cX0_crossRow 115 = .ok (.iinc 4 1, 3) := by decide +kernel
theorem dX0_crossRow_118 : decode cX0_crossRow 118 = .ok (.goto (-86), 3) := by decide +kernel
theorem dX0_crossRow_121 : decode cX0_crossRow 121 = .ok (.iinc 5 1, 3) := by decide +kernel
theorem dX0_crossRow_124 : decode cX0_crossRow 124 = .ok (.goto (-92), 3) := by decide +kernel
theorem dX0_crossRow_127 : decode cX0_crossRow 127 = .ok (.return_, 1) := by decide +kernel
theorem dX0_product_0 : decode cX0_product 0 = .ok (.iload_n 1, 1) := by decide +kernel
theorem dX0_product_1 : decode cX0_product 1 = .ok (.invokestatic 40, 3) := by decide +kernel
theorem dX0_product_4 : decode cX0_product 4 = .ok (.ifCond .eq 17, 3) := by decide +kernel
theorem dX0_product_7 : decode cX0_product 7 = .ok (.iload_n 2, 1) := by decide +kernel
theorem dX0_product_8 : decode cX0_product 8 = .ok (.invokestatic 40, 3) := by decide +kernel
theorem dX0_product_11 : decode cX0_product 11 = .ok (.ifCond .eq 10, 3) := by decide +kernel
theorem dX0_product_14 : decode cX0_product 14 = .ok (.iload_n 3, 1) := by decide +kernel
theorem dX0_product_15 : decode cX0_product 15 = .ok (.invokestatic 40, 3) := by decide +kernel
theorem dX0_product_18 : decode cX0_product 18 = .ok (.ifCond .ne 5, 3) := by decide +kernel
theorem dX0_product_21 : decode cX0_product 21 = .ok (.iconst (-1), 1) := by decide +kernel
theorem dX0_product_22 : decode cX0_product 22 = .ok (.ireturn, 1) := by decide +kernel
theorem dX0_product_23 : decode cX0_product 23 = .ok (.aload_n 0, 1) := by decide +kernel
theorem dX0_product_24 : decode cX0_product 24 = .ok (.invokevirtual 47, 3) := by decide +kernel
theorem dX0_product_27 : decode cX0_product 27 = .ok (.iconst 0, 1) := by decide +kernel
theorem dX0_product_28 : decode cX0_product 28 = .ok (.istore 4, 2) := by decide +kernel
theorem dX0_product_30 : decode cX0_product 30 = .ok (.iload 4, 2) := by decide +kernel
theorem dX0_product_32 : decode cX0_product 32 = .ok (.bipush 6, 2) := by decide +kernel
theorem dX0_product_34 : decode cX0_product 34 = .ok (.if_icmp .ge 27, 3) := by decide +kernel
theorem dX0_product_37 : decode cX0_product 37 = .ok (.aload_n 0, 1) := by decide +kernel
theorem dX0_product_38 : decode cX0_product 38 = .ok (.iload_n 2, 1) := by decide +kernel
theorem dX0_product_39 : decode cX0_product 39 = .ok (.iload_n 3, 1) := by decide +kernel
theorem dX0_product_40 : decode cX0_product 40 = .ok (.iload 4, 2) := by decide +kernel
theorem dX0_product_42 : decode cX0_product 42 = .ok (.invokevirtual 78, 3) := by decide +kernel
theorem dX0_product_45 : decode cX0_product 45 = .ok (.aload_n 0, 1) := by decide +kernel
theorem dX0_product_46 : decode cX0_product 46 = .ok (.invokevirtual 60, 3) := by decide +kernel
theorem dX0_product_49 : decode cX0_product 49 = .ok (.aload_n 0, 1) := by decide +kernel
theorem dX0_product_50 : decode cX0_product 50 = .ok (.iload 4, 2) := by decide +kernel
theorem dX0_product_52 : decode cX0_product 52 = .ok (.invokevirtual 63, 3) := by decide +kernel
theorem dX0_product_55 : decode cX0_product 55 = .ok (.iinc 4 1, 3) := by decide +kernel
theorem dX0_product_58 : decode cX0_product 58 = .ok (.goto (-28), 3) := by decide +kernel
theorem dX0_product_61 : decode cX0_product 61 = .ok (.aload_n 0, 1) := by decide +kernel
theorem dX0_product_62 : decode cX0_product 62 = .ok (.iload_n 1, 1) := by decide +kernel
theorem dX0_product_63 : decode cX0_product 63 = .ok (.invokevirtual 67, 3) := by decide +kernel
theorem dX0_product_66 : decode cX0_product 66 = .ok (.ireturn, 1) := by decide +kernel
theorem dX0_productRow_0 : decode cX0_productRow 0 = .ok (.aload_n 0, 1) := by decide +kernel
theorem dX0_productRow_1 : decode cX0_productRow 1 = .ok (.invokevirtual 50, 3) := by decide +kernel
theorem dX0_productRow_4 : decode cX0_productRow 4 = .ok (.aload_n 0, 1) := by decide +kernel
theorem dX0_productRow_5 : decode cX0_productRow 5 = .ok (.iload_n 1, 1) := by decide +kernel
theorem dX0_productRow_6 : decode cX0_productRow 6 = .ok (.iload_n 3, 1) := by decide +kernel
theorem dX0_productRow_7 : decode cX0_productRow 7 = .ok (.invokevirtual 53, 3) := by decide +kernel
theorem dX0_productRow_10 : decode cX0_productRow 10 = .ok (.istore 4, 2) := by decide +kernel
theorem dX0_productRow_12 : decode cX0_productRow 12 = .ok (.iload 4, 2) := by decide +kernel
theorem dX0_productRow_14 : decode cX0_productRow 14 = .ok (.aload_n 0, 1) := by decide +kernel
theorem dX0_productRow_15 : decode cX0_productRow 15 = .ok (.iload_n 1, 1) := by decide +kernel
theorem dX0_productRow_16 : decode cX0_productRow 16 = .ok (.iload_n 3, 1) := by decide +kernel
theorem dX0_productRow_17 : decode cX0_productRow 17 = .ok (.invokevirtual 57, 3) := by decide +kernel
theorem dX0_productRow_20 : decode cX0_productRow 20 = .ok (.if_icmp .ge 75, 3) := by decide +kernel
theorem dX0_productRow_23 : decode cX0_productRow 23 = .ok (.aload_n 0, 1) := by decide +kernel
theorem dX0_productRow_24 : decode cX0_productRow 24 = .ok (.getfield 13, 3) := by decide +kernel
theorem dX0_productRow_27 : decode cX0_productRow 27 = .ok (.iload 4, 2) := by decide +kernel
theorem dX0_productRow_29 : decode cX0_productRow 29 = .ok (.baload, 1) := by decide +kernel
theorem dX0_productRow_30 : decode cX0_productRow 30 = .ok (.istore 5, 2) := by decide +kernel
theorem dX0_productRow_32 : decode cX0_productRow 32 = .ok (.aload_n 0, 1) := by decide +kernel
theorem dX0_productRow_33 : decode cX0_productRow 33 = .ok (.iload_n 2, 1) := by decide +kernel
theorem dX0_productRow_34 : decode cX0_productRow 34 = .ok (.iload 5, 2) := by decide +kernel
theorem dX0_productRow_36 : decode cX0_productRow 36 = .ok (.invokevirtual 53, 3) := by decide +kernel
theorem dX0_productRow_39 : decode cX0_productRow 39 = .ok (.istore 6, 2) := by decide +kernel
theorem dX0_productRow_41 : decode cX0_productRow 41 = .ok (.iload 6, 2) := by decide +kernel
theorem dX0_productRow_43 : decode cX0_productRow 43 = .ok (.aload_n 0, 1) := by decide +kernel
theorem dX0_productRow_44 : decode cX0_productRow 44 = .ok (.iload_n 2, 1) := by decide +kernel
theorem dX0_productRow_45 : decode cX0_productRow 45 = .ok (.iload 5, 2) := by decide +kernel
theorem dX0_productRow_47 : decode cX0_productRow 47 = .ok (.invokevirtual 57, 3) := by decide +kernel
theorem dX0_productRow_50 : decode cX0_productRow 50 = .ok (.if_icmp .ge 39, 3) := by decide +kernel
theorem dX0_productRow_53 : decode cX0_productRow 53 = .ok (.aload_n 0, 1) := by decide +kernel
theorem dX0_productRow_54 : decode cX0_productRow 54 = .ok (.getfield 29, 3) := by decide +kernel
theorem dX0_productRow_57 : decode cX0_productRow 57 = .ok (.aload_n 0, 1) := by decide +kernel
theorem dX0_productRow_58 : decode cX0_productRow 58 = .ok (.getfield 13, 3) := by decide +kernel
theorem dX0_productRow_61 : decode cX0_productRow 61 = .ok (.iload 6, 2) := by decide +kernel
theorem dX0_productRow_63 : decode cX0_productRow 63 = .ok (.baload, 1) := by decide +kernel
theorem dX0_productRow_64 : decode cX0_productRow 64 = .ok (.dup2, 1) := by decide +kernel
theorem dX0_productRow_65 : decode cX0_productRow 65 = .ok (.iaload, 1) := by decide +kernel
theorem dX0_productRow_66 : decode cX0_productRow 66 = .ok (.aload_n 0, 1) := by decide +kernel
theorem dX0_productRow_67 : decode cX0_productRow 67 = .ok (.getfield 16, 3) := by decide +kernel
theorem dX0_productRow_70 : decode cX0_productRow 70 = .ok (.iload 4, 2) := by decide +kernel
theorem dX0_productRow_72 : decode cX0_productRow 72 = .ok (.iaload, 1) := by decide +kernel
theorem dX0_productRow_73 : decode cX0_productRow 73 = .ok (.aload_n 0, 1) := by decide +kernel
theorem dX0_productRow_74 : decode cX0_productRow 74 = .ok (.getfield 16, 3) := by decide +kernel
theorem dX0_productRow_77 : decode cX0_productRow 77 = .ok (.iload 6, 2) := by decide +kernel
theorem dX0_productRow_79 : decode cX0_productRow 79 = .ok (.iaload, 1) := by decide +kernel
theorem dX0_productRow_80 : decode cX0_productRow 80 = .ok (.imul, 1) := by decide +kernel
theorem dX0_productRow_81 : decode cX0_productRow 81 = .ok (.iadd, 1) := by decide +kernel
theorem dX0_productRow_82 : decode cX0_productRow 82 = .ok (.iastore, 1) := by decide +kernel
theorem dX0_productRow_83 : decode cX0_productRow 83 = .ok (.iinc 6 1, 3) := by decide +kernel
theorem dX0_productRow_86 : decode cX0_productRow 86 = .ok (.goto (-45), 3) := by decide +kernel
theorem dX0_productRow_89 : decode cX0_productRow 89 = .ok (.iinc 4 1, 3) := by decide +kernel
theorem dX0_productRow_92 : decode cX0_productRow 92 = .ok (.goto (-80), 3) := by decide +kernel
theorem dX0_productRow_95 : decode cX0_productRow 95 = .ok (.return_, 1) := by decide +kernel
theorem dX0_masked_0 : decode cX0_masked 0 = .ok (.iload_n 2, 1) := by decide +kernel
theorem dX0_masked_1 : decode cX0_masked 1 = .ok (.bipush 7, 2) := by decide +kernel
theorem dX0_masked_3 : decode cX0_masked 3 = .ok (.iand, 1) := by decide +kernel
theorem dX0_masked_4 : decode cX0_masked 4 = .ok (.istore_n 3, 1) := by decide +kernel
theorem dX0_masked_5 : decode cX0_masked 5 = .ok (.iload_n 2, 1) := by decide +kernel
theorem dX0_masked_6 : decode cX0_masked 6 = .ok (.iconst 3, 1) := by decide +kernel
theorem dX0_masked_7 : decode cX0_masked 7 = .ok (.ishr, 1) := by decide +kernel
theorem dX0_masked_8 : decode cX0_masked 8 = .ok (.bipush 7, 2) := by decide +kernel
theorem dX0_masked_10 : decode cX0_masked 10 = .ok (.iand, 1) := by decide +kernel
theorem dX0_masked_11 : decode cX0_masked 11 = .ok (.istore 4, 2) := by decide +kernel
theorem dX0_masked_13 : decode cX0_masked 13 = .ok (.iload_n 2, 1) := by decide +kernel
theorem dX0_masked_14 : decode cX0_masked 14 = .ok (.bipush 6, 2) := by decide +kernel
theorem dX0_masked_16 : decode cX0_masked 16 = .ok (.ishr, 1) := by decide +kernel
theorem dX0_masked_17 : decode cX0_masked 17 = .ok (.istore 5, 2) := by decide +kernel
theorem dX0_masked_19 : decode cX0_masked 19 = .ok (.iload_n 1, 1) := by decide +kernel
theorem dX0_masked_20 : decode cX0_masked 20 = .ok (.invokestatic 40, 3) := by decide +kernel
theorem dX0_masked_23 : decode cX0_masked 23 = .ok (.ifCond .eq 26, 3) := by decide +kernel
theorem dX0_masked_26 : decode cX0_masked 26 = .ok (.iload_n 3, 1) := by decide +kernel
theorem dX0_masked_27 : decode cX0_masked 27 = .ok (.invokestatic 40, 3) := by decide +kernel
theorem dX0_masked_30 : decode cX0_masked 30 = .ok (.ifCond .eq 19, 3) := by decide +kernel
theorem dX0_masked_33 : decode cX0_masked 33 = .ok (.iload 4, 2) := by decide +kernel
theorem dX0_masked_35 : decode cX0_masked 35 = .ok (.invokestatic 40, 3) := by decide +kernel
theorem dX0_masked_38 : decode cX0_masked 38 = .ok (.ifCond .eq 11, 3) := by decide +kernel
theorem dX0_masked_41 : decode cX0_masked 41 = .ok (.iload 5, 2) := by decide +kernel
theorem dX0_masked_43 : decode cX0_masked 43 = .ok (.invokestatic 40, 3) := by decide +kernel
theorem dX0_masked_46 : decode cX0_masked 46 = .ok (.ifCond .ne 5, 3) := by decide +kernel
theorem dX0_masked_49 : decode cX0_masked 49 = .ok (.iconst (-1), 1) := by decide +kernel
theorem dX0_masked_50 : decode cX0_masked 50 = .ok (.ireturn, 1) := by decide +kernel
theorem dX0_masked_51 : decode cX0_masked 51 = .ok (.aload_n 0, 1) := by decide +kernel
theorem dX0_masked_52 : decode cX0_masked 52 = .ok (.invokevirtual 47, 3) := by decide +kernel
theorem dX0_masked_55 : decode cX0_masked 55 = .ok (.iconst 0, 1) := by decide +kernel
theorem dX0_masked_56 : decode cX0_masked 56 = .ok (.istore 6, 2) := by decide +kernel
theorem dX0_masked_58 : decode cX0_masked 58 = .ok (.iload 6, 2) := by decide +kernel
theorem dX0_masked_60 : decode cX0_masked 60 = .ok (.bipush 6, 2) := by decide +kernel
theorem dX0_masked_62 : decode cX0_masked 62 = .ok (.if_icmp .ge 75, 3) := by decide +kernel
theorem dX0_masked_65 : decode cX0_masked 65 = .ok (.aload_n 0, 1) := by decide +kernel
theorem dX0_masked_66 : decode cX0_masked 66 = .ok (.iload_n 3, 1) := by decide +kernel
theorem dX0_masked_67 : decode cX0_masked 67 = .ok (.iload 4, 2) := by decide +kernel
theorem dX0_masked_69 : decode cX0_masked 69 = .ok (.iload 6, 2) := by decide +kernel
theorem dX0_masked_71 : decode cX0_masked 71 = .ok (.invokevirtual 78, 3) := by decide +kernel
theorem dX0_masked_74 : decode cX0_masked 74 = .ok (.aload_n 0, 1) := by decide +kernel
theorem dX0_masked_75 : decode cX0_masked 75 = .ok (.iload 5, 2) := by decide +kernel
theorem dX0_masked_77 : decode cX0_masked 77 = .ok (.iload 6, 2) := by decide +kernel
theorem dX0_masked_79 : decode cX0_masked 79 = .ok (.invokevirtual 53, 3) := by decide +kernel
theorem dX0_masked_82 : decode cX0_masked 82 = .ok (.istore 7, 2) := by decide +kernel
theorem dX0_masked_84 : decode cX0_masked 84 = .ok (.iload 7, 2) := by decide +kernel
theorem dX0_masked_86 : decode cX0_masked 86 = .ok (.aload_n 0, 1) := by decide +kernel
theorem dX0_masked_87 : decode cX0_masked 87 = .ok (.iload 5, 2) := by decide +kernel
theorem dX0_masked_89 : decode cX0_masked 89 = .ok (.iload 6, 2) := by decide +kernel
theorem dX0_masked_91 : decode cX0_masked 91 = .ok (.invokevirtual 57, 3) := by decide +kernel
theorem dX0_masked_94 : decode cX0_masked 94 = .ok (.if_icmp .ge 31, 3) := by decide +kernel
theorem dX0_masked_97 : decode cX0_masked 97 = .ok (.aload_n 0, 1) := by decide +kernel
theorem dX0_masked_98 : decode cX0_masked 98 = .ok (.getfield 13, 3) := by decide +kernel
theorem dX0_masked_101 : decode cX0_masked 101 = .ok (.iload 7, 2) := by decide +kernel
theorem dX0_masked_103 : decode cX0_masked 103 = .ok (.baload, 1) := by decide +kernel
theorem dX0_masked_104 : decode cX0_masked 104 = .ok (.istore 8, 2) := by decide +kernel
theorem dX0_masked_106 : decode cX0_masked 106 = .ok (.aload_n 0, 1) := by decide +kernel
theorem dX0_masked_107 : decode cX0_masked 107 = .ok (.iload 8, 2) := by decide +kernel
theorem dX0_masked_109 : decode cX0_masked 109 = .ok (.aload_n 0, 1) := by decide +kernel
theorem dX0_masked_110 : decode cX0_masked 110 = .ok (.getfield 29, 3) := by decide +kernel
theorem dX0_masked_113 : decode cX0_masked 113 = .ok (.iload 8, 2) := by decide +kernel
theorem dX0_masked_115 : decode cX0_masked 115 = .ok (.iaload, 1) := by decide +kernel
theorem dX0_masked_116 : decode cX0_masked 116 = .ok (.invokevirtual 36, 3) := by decide +kernel
theorem dX0_masked_119 : decode cX0_masked 119 = .ok (.iinc 7 1, 3) := by decide +kernel
theorem dX0_masked_122 : decode cX0_masked 122 = .ok (.goto (-38), 3) := by decide +kernel
theorem dX0_masked_125 : decode cX0_masked 125 = .ok (.aload_n 0, 1) := by decide +kernel
theorem dX0_masked_126 : decode cX0_masked 126 = .ok (.iload 6, 2) := by decide +kernel
theorem dX0_masked_128 : decode cX0_masked 128 = .ok (.invokevirtual 63, 3) := by decide +kernel
theorem dX0_masked_131 : decode cX0_masked 131 = .ok (.iinc 6 1, 3) := by decide +kernel
theorem dX0_masked_134 : decode cX0_masked 134 = .ok (.goto (-76), 3) := by decide +kernel
theorem dX0_masked_137 : decode cX0_masked 137 = .ok (.aload_n 0, 1) := by decide +kernel
theorem dX0_masked_138 : decode cX0_masked 138 = .ok (.iload_n 1, 1) := by decide +kernel
theorem dX0_masked_139 : decode cX0_masked 139 = .ok (.invokevirtual 67, 3) := by decide +kernel
theorem dX0_masked_142 : decode cX0_masked 142 = .ok (.ireturn, 1) := by decide +kernel
theorem dX0_transpose_0 : decode cX0_transpose 0 = .ok (.iload_n 1, 1) := by decide +kernel
theorem dX0_transpose_1 : decode cX0_transpose 1 = .ok (.invokestatic 40, 3) := by decide +kernel
theorem dX0_transpose_4 : decode cX0_transpose 4 = .ok (.ifCond .eq 10, 3) := by decide +kernel
theorem dX0_transpose_7 : decode cX0_transpose 7 = .ok (.iload_n 2, 1) := by decide +kernel
theorem dX0_transpose_8 : decode cX0_transpose 8 = .ok (.invokestatic 40, 3) := by decide +kernel
theorem dX0_transpose_11 : decode cX0_transpose 11 = .ok (.ifCond .ne 5, 3) := by decide +kernel
theorem dX0_transpose_14 : decode cX0_transpose 14 = .ok (.iconst (-1), 1) := by decide +kernel
theorem dX0_transpose_15 : decode cX0_transpose 15 = .ok (.ireturn, 1) := by decide +kernel
theorem dX0_transpose_16 : decode cX0_transpose 16 = .ok (.aload_n 0, 1) := by decide +kernel
theorem dX0_transpose_17 : decode cX0_transpose 17 = .ok (.invokevirtual 47, 3) := by decide +kernel
theorem dX0_transpose_20 : decode cX0_transpose 20 = .ok (.iconst 0, 1) := by decide +kernel
theorem dX0_transpose_21 : decode cX0_transpose 21 = .ok (.istore_n 3, 1) := by decide +kernel
theorem dX0_transpose_22 : decode cX0_transpose 22 = .ok (.iload_n 3, 1) := by decide +kernel
theorem dX0_transpose_23 : decode cX0_transpose 23 = .ok (.bipush 6, 2) := by decide +kernel
theorem dX0_transpose_25 : decode cX0_transpose 25 = .ok (.if_icmp .ge 58, 3) := by decide +kernel
theorem dX0_transpose_28 : decode cX0_transpose 28 = .ok (.iconst 0, 1) := by decide +kernel
theorem dX0_transpose_29 : decode cX0_transpose 29 = .ok (.istore 4, 2) := by decide +kernel
theorem dX0_transpose_31 : decode cX0_transpose 31 = .ok (.iload 4, 2) := by decide +kernel
theorem dX0_transpose_33 : decode cX0_transpose 33 = .ok (.bipush 6, 2) := by decide +kernel
theorem dX0_transpose_35 : decode cX0_transpose 35 = .ok (.if_icmp .ge 37, 3) := by decide +kernel
theorem dX0_transpose_38 : decode cX0_transpose 38 = .ok (.aload_n 0, 1) := by decide +kernel
theorem dX0_transpose_39 : decode cX0_transpose 39 = .ok (.iload_n 2, 1) := by decide +kernel
theorem dX0_transpose_40 : decode cX0_transpose 40 = .ok (.iload 4, 2) := by decide +kernel
theorem dX0_transpose_42 : decode cX0_transpose 42 = .ok (.iload_n 3, 1) := by decide +kernel
theorem dX0_transpose_43 : decode cX0_transpose 43 = .ok (.invokevirtual 81, 3) := by decide +kernel
theorem dX0_transpose_46 : decode cX0_transpose 46 = .ok (.istore 5, 2) := by decide +kernel
theorem dX0_transpose_48 : decode cX0_transpose 48 = .ok (.iload 5, 2) := by decide +kernel
theorem dX0_transpose_50 : decode cX0_transpose 50 = .ok (.ifCond .lt 16, 3) := by decide +kernel
theorem dX0_transpose_53 : decode cX0_transpose 53 = .ok (.aload_n 0, 1) := by decide +kernel
theorem dX0_transpose_54 : decode cX0_transpose 54 = .ok (.iload 4, 2) := by decide +kernel
theorem dX0_transpose_56 : decode cX0_transpose 56 = .ok (.aload_n 0, 1) := by decide +kernel
theorem dX0_transpose_57 : decode cX0_transpose 57 = .ok (.getfield 16, 3) := by decide +kernel
theorem dX0_transpose_60 : decode cX0_transpose 60 = .ok (.iload 5, 2) := by decide +kernel
theorem dX0_transpose_62 : decode cX0_transpose 62 = .ok (.iaload, 1) := by decide +kernel
theorem dX0_transpose_63 : decode cX0_transpose 63 = .ok (.invokevirtual 36, 3) := by decide +kernel
theorem dX0_transpose_66 : decode cX0_transpose 66 = .ok (.iinc 4 1, 3) := by decide +kernel
theorem dX0_transpose_69 : decode cX0_transpose 69 = .ok (.goto (-38), 3) := by decide +kernel
theorem dX0_transpose_72 : decode cX0_transpose 72 = .ok (.aload_n 0, 1) := by decide +kernel
theorem dX0_transpose_73 : decode cX0_transpose 73 = .ok (.iload_n 3, 1) := by decide +kernel
theorem dX0_transpose_74 : decode cX0_transpose 74 = .ok (.invokevirtual 63, 3) := by decide +kernel
theorem dX0_transpose_77 : decode cX0_transpose 77 = .ok (.iinc 3 1, 3) := by decide +kernel
theorem dX0_transpose_80 : decode cX0_transpose 80 = .ok (.goto (-58), 3) := by decide +kernel
theorem dX0_transpose_83 : decode cX0_transpose 83 = .ok (.aload_n 0, 1) := by decide +kernel
theorem dX0_transpose_84 : decode cX0_transpose 84 = .ok (.iload_n 1, 1) := by decide +kernel
theorem dX0_transpose_85 : decode cX0_transpose 85 = .ok (.invokevirtual 67, 3) := by decide +kernel
theorem dX0_transpose_88 : decode cX0_transpose 88 = .ok (.ireturn, 1) := by decide +kernel
theorem dX0_find_0 : decode cX0_find 0 = .ok (.aload_n 0, 1) := by decide +kernel
theorem dX0_find_1 : decode cX0_find 1 = .ok (.iload_n 1, 1) := by decide +kernel
theorem dX0_find_2 : decode cX0_find 2 = .ok (.iload_n 2, 1) := by decide +kernel
theorem dX0_find_3 : decode cX0_find 3 = .ok (.invokevirtual 53, 3) := by decide +kernel
theorem dX0_find_6 : decode cX0_find 6 = .ok (.istore 4, 2) := by decide +kernel
theorem dX0_find_8 : decode cX0_find 8 = .ok (.aload_n 0, 1) := by decide +kernel
theorem dX0_find_9 : decode cX0_find 9 = .ok (.iload_n 1, 1) := by decide +kernel
theorem dX0_find_10 : decode cX0_find 10 = .ok (.iload_n 2, 1) := by decide +kernel
theorem dX0_find_11 : decode cX0_find 11 = .ok (.invokevirtual 57, 3) := by decide +kernel
theorem dX0_find_14 : decode cX0_find 14 = .ok (.iconst 1, 1) := by decide +kernel
theorem dX0_find_15 : decode cX0_find 15 = .ok (.isub, 1) := by decide +kernel
theorem dX0_find_16 : decode cX0_find 16 = .ok (.istore 5, 2) := by decide +kernel
theorem dX0_find_18 : decode cX0_find 18 = .ok (.iconst 0, 1) := by decide +kernel
theorem dX0_find_19 : decode cX0_find 19 = .ok (.istore 6, 2) := by decide +kernel
theorem dX0_find_21 : decode cX0_find 21 = .ok (.iload 6, 2) := by decide +kernel
theorem dX0_find_23 : decode cX0_find 23 = .ok (.iconst 4, 1) := by decide +kernel
theorem dX0_find_24 : decode cX0_find 24 = .ok (.if_icmp .ge 65, 3) := by decide +kernel
theorem dX0_find_27 : decode cX0_find 27 = .ok (.iload 4, 2) := by decide +kernel
theorem dX0_find_29 : decode cX0_find 29 = .ok (.iload 5, 2) := by decide +kernel
theorem dX0_find_31 : decode cX0_find 31 = .ok (.if_icmp .gt 58, 3) := by decide +kernel
theorem dX0_find_34 : decode cX0_find 34 = .ok (.iload 4, 2) := by decide +kernel
theorem dX0_find_36 : decode cX0_find 36 = .ok (.iload 5, 2) := by decide +kernel
theorem dX0_find_38 : decode cX0_find 38 = .ok (.iadd, 1) := by decide +kernel
theorem dX0_find_39 : decode cX0_find 39 = .ok (.iconst 1, 1) := by decide +kernel
theorem dX0_find_40 : decode cX0_find 40 = .ok (.ishr, 1) := by decide +kernel
theorem dX0_find_41 : decode cX0_find 41 = .ok (.istore 7, 2) := by decide +kernel
theorem dX0_find_43 : decode cX0_find 43 = .ok (.aload_n 0, 1) := by decide +kernel
theorem dX0_find_44 : decode cX0_find 44 = .ok (.getfield 13, 3) := by decide +kernel
theorem dX0_find_47 : decode cX0_find 47 = .ok (.iload 7, 2) := by decide +kernel
theorem dX0_find_49 : decode cX0_find 49 = .ok (.baload, 1) := by decide +kernel
theorem dX0_find_50 : decode cX0_find 50 = .ok (.iload_n 3, 1) := by decide +kernel
theorem dX0_find_51 : decode cX0_find 51 = .ok (.if_icmp .ne 6, 3) := by decide +kernel
theorem dX0_find_54 : decode cX0_find 54 = .ok (.iload 7, 2) := by decide +kernel
theorem dX0_find_56 : decode cX0_find 56 = .ok (.ireturn, 1) := by decide +kernel
theorem dX0_find_57 : decode cX0_find 57 = .ok (.aload_n 0, 1) := by decide +kernel
theorem dX0_find_58 : decode cX0_find 58 = .ok (.getfield 13, 3) := by decide +kernel
theorem dX0_find_61 : decode cX0_find 61 = .ok (.iload 7, 2) := by decide +kernel
theorem dX0_find_63 : decode cX0_find 63 = .ok (.baload, 1) := by decide +kernel
theorem dX0_find_64 : decode cX0_find 64 = .ok (.iload_n 3, 1) := by decide +kernel
theorem dX0_find_65 : decode cX0_find 65 = .ok (.if_icmp .ge 12, 3) := by decide +kernel
theorem dX0_find_68 : decode cX0_find 68 = .ok (.iload 7, 2) := by decide +kernel
theorem dX0_find_70 : decode cX0_find 70 = .ok (.iconst 1, 1) := by decide +kernel
theorem dX0_find_71 : decode cX0_find 71 = .ok (.iadd, 1) := by decide +kernel
theorem dX0_find_72 : decode cX0_find 72 = .ok (.istore 4, 2) := by decide +kernel
theorem dX0_find_74 : decode cX0_find 74 = .ok (.goto 9, 3) := by decide +kernel
theorem dX0_find_77 : decode cX0_find 77 = .ok (.iload 7, 2) := by decide +kernel
theorem dX0_find_79 : decode cX0_find 79 = .ok (.iconst 1, 1) := by decide +kernel
theorem dX0_find_80 : decode cX0_find 80 = .ok (.isub, 1) := by decide +kernel
theorem dX0_find_81 : decode cX0_find 81 = .ok (.istore 5, 2) := by decide +kernel
theorem dX0_find_83 : decode cX0_find 83 = .ok (.iinc 6 1, 3) := by decide +kernel
theorem dX0_find_86 : decode cX0_find 86 = .ok (.goto (-65), 3) := by decide +kernel
theorem dX0_find_89 : decode cX0_find 89 = .ok (.iconst (-1), 1) := by decide +kernel
theorem dX0_find_90 : decode cX0_find 90 = .ok (.ireturn, 1) := by decide +kernel
theorem dX0_scale_0 : decode cX0_scale 0 = .ok (.iload_n 1, 1) := by decide +kernel
theorem dX0_scale_1 : decode cX0_scale 1 = .ok (.invokestatic 40, 3) := by decide +kernel
theorem dX0_scale_4 : decode cX0_scale 4 = .ok (.ifCond .eq 10, 3) := by decide +kernel
theorem dX0_scale_7 : decode cX0_scale 7 = .ok (.iload_n 2, 1) := by decide +kernel
theorem dX0_scale_8 : decode cX0_scale 8 = .ok (.invokestatic 40, 3) := by decide +kernel
theorem dX0_scale_11 : decode cX0_scale 11 = .ok (.ifCond .ne 5, 3) := by decide +kernel
theorem dX0_scale_14 : decode cX0_scale 14 = .ok (.iconst (-1), 1) := by decide +kernel
theorem dX0_scale_15 : decode cX0_scale 15 = .ok (.ireturn, 1) := by decide +kernel
theorem dX0_scale_16 : decode cX0_scale 16 = .ok (.aload_n 0, 1) := by decide +kernel
theorem dX0_scale_17 : decode cX0_scale 17 = .ok (.invokevirtual 47, 3) := by decide +kernel
theorem dX0_scale_20 : decode cX0_scale 20 = .ok (.iconst 0, 1) := by decide +kernel
theorem dX0_scale_21 : decode cX0_scale 21 = .ok (.istore 4, 2) := by decide +kernel
theorem dX0_scale_23 : decode cX0_scale 23 = .ok (.iload 4, 2) := by decide +kernel
theorem dX0_scale_25 : decode cX0_scale 25 = .ok (.bipush 6, 2) := by decide +kernel
theorem dX0_scale_27 : decode cX0_scale 27 = .ok (.if_icmp .ge 62, 3) := by decide +kernel
theorem dX0_scale_30 : decode cX0_scale 30 = .ok (.aload_n 0, 1) := by decide +kernel
theorem dX0_scale_31 : decode cX0_scale 31 = .ok (.iload_n 2, 1) := by decide +kernel
theorem dX0_scale_32 : decode cX0_scale 32 = .ok (.iload 4, 2) := by decide +kernel
theorem dX0_scale_34 : decode cX0_scale 34 = .ok (.invokevirtual 53, 3) := by decide +kernel
theorem dX0_scale_37 : decode cX0_scale 37 = .ok (.istore 5, 2) := by decide +kernel
theorem dX0_scale_39 : decode cX0_scale 39 = .ok (.iload 5, 2) := by decide +kernel
theorem dX0_scale_41 : decode cX0_scale 41 = .ok (.aload_n 0, 1) := by decide +kernel
theorem dX0_scale_42 : decode cX0_scale 42 = .ok (.iload_n 2, 1) := by decide +kernel
theorem dX0_scale_43 : decode cX0_scale 43 = .ok (.iload 4, 2) := by decide +kernel
theorem dX0_scale_45 : decode cX0_scale 45 = .ok (.invokevirtual 57, 3) := by decide +kernel
theorem dX0_scale_48 : decode cX0_scale 48 = .ok (.if_icmp .ge 29, 3) := by decide +kernel
theorem dX0_scale_51 : decode cX0_scale 51 = .ok (.aload_n 0, 1) := by decide +kernel
theorem dX0_scale_52 : decode cX0_scale 52 = .ok (.aload_n 0, 1) := by decide +kernel
theorem dX0_scale_53 : decode cX0_scale 53 = .ok (.getfield 13, 3) := by decide +kernel
theorem dX0_scale_56 : decode cX0_scale 56 = .ok (.iload 5, 2) := by decide +kernel
theorem dX0_scale_58 : decode cX0_scale 58 = .ok (.baload, 1) := by decide +kernel
theorem dX0_scale_59 : decode cX0_scale 59 = .ok (.aload_n 0, 1) := by decide +kernel
theorem dX0_scale_60 : decode cX0_scale 60 = .ok (.getfield 16, 3) := by decide +kernel
theorem dX0_scale_63 : decode cX0_scale 63 = .ok (.iload 5, 2) := by decide +kernel
theorem dX0_scale_65 : decode cX0_scale 65 = .ok (.iaload, 1) := by decide +kernel
theorem dX0_scale_66 : decode cX0_scale 66 = .ok (.iload_n 3, 1) := by decide +kernel
theorem dX0_scale_67 : decode cX0_scale 67 = .ok (.imul, 1) := by decide +kernel
theorem dX0_scale_68 : decode cX0_scale 68 = .ok (.invokevirtual 36, 3) := by decide +kernel
theorem dX0_scale_71 : decode cX0_scale 71 = .ok (.iinc 5 1, 3) := by decide +kernel
theorem dX0_scale_74 : decode cX0_scale 74 = .ok (.goto (-35), 3) := by decide +kernel
theorem dX0_scale_77 : decode cX0_scale 77 = .ok (.aload_n 0, 1) := by decide +kernel
theorem dX0_scale_78 : decode cX0_scale 78 = .ok (.iload 4, 2) := by decide +kernel
theorem dX0_scale_80 : decode cX0_scale 80 = .ok (.invokevirtual 63, 3) := by decide +kernel
theorem dX0_scale_83 : decode cX0_scale 83 = .ok (.iinc 4 1, 3) := by decide +kernel
theorem dX0_scale_86 : decode cX0_scale 86 = .ok (.goto (-63), 3) := by decide +kernel
theorem dX0_scale_89 : decode cX0_scale 89 = .ok (.aload_n 0, 1) := by decide +kernel
theorem dX0_scale_90 : decode cX0_scale 90 = .ok (.iload_n 1, 1) := by decide +kernel
theorem dX0_scale_91 : decode cX0_scale 91 = .ok (.invokevirtual 67, 3) := by decide +kernel
theorem dX0_scale_94 : decode cX0_scale 94 = .ok (.ireturn, 1) := by decide +kernel
theorem dX0_select_0 : decode cX0_select 0 = .ok (.iload_n 1, 1) := by decide +kernel
theorem dX0_select_1 : decode cX0_select 1 = .ok (.invokestatic 40, 3) := by decide +kernel
theorem dX0_select_4 : decode cX0_select 4 = .ok (.ifCond .eq 21, 3) := by decide +kernel
theorem dX0_select_7 : decode cX0_select 7 = .ok (.iload_n 2, 1) := by decide +kernel
theorem dX0_select_8 : decode cX0_select 8 = .ok (.invokestatic 40, 3) := by decide +kernel
theorem dX0_select_11 : decode cX0_select 11 = .ok (.ifCond .eq 14, 3) := by decide +kernel
theorem dX0_select_14 : decode cX0_select 14 = .ok (.iload_n 3, 1) := by decide +kernel
theorem dX0_select_15 : decode cX0_select 15 = .ok (.ifCond .lt 10, 3) := by decide +kernel
theorem dX0_select_18 : decode cX0_select 18 = .ok (.iload_n 3, 1) := by decide +kernel
theorem dX0_select_19 : decode cX0_select 19 = .ok (.sipush 4095, 3) := by decide +kernel
theorem dX0_select_22 : decode cX0_select 22 = .ok (.if_icmp .le 5, 3) := by decide +kernel
theorem dX0_select_25 : decode cX0_select 25 = .ok (.iconst (-1), 1) := by decide +kernel
theorem dX0_select_26 : decode cX0_select 26 = .ok (.ireturn, 1) := by decide +kernel
theorem dX0_select_27 : decode cX0_select 27 = .ok (.aload_n 0, 1) := by decide +kernel
theorem dX0_select_28 : decode cX0_select 28 = .ok (.invokevirtual 47, 3) := by decide +kernel
theorem dX0_select_31 : decode cX0_select 31 = .ok (.iconst 0, 1) := by decide +kernel
theorem dX0_select_32 : decode cX0_select 32 = .ok (.istore 4, 2) := by decide +kernel
theorem dX0_select_34 : decode cX0_select 34 = .ok (.iload 4, 2) := by decide +kernel
theorem dX0_select_36 : decode cX0_select 36 = .ok (.bipush 6, 2) := by decide +kernel
theorem dX0_select_38 : decode cX0_select 38 = .ok (.if_icmp .ge 98, 3) := by decide +kernel
theorem dX0_select_41 : decode cX0_select 41 = .ok (.iload_n 3, 1) := by decide +kernel
theorem dX0_select_42 : decode cX0_select 42 = .ok (.iload 4, 2) := by decide +kernel
theorem dX0_select_44 : decode cX0_select 44 = .ok (.ishr, 1) := by decide +kernel
theorem dX0_select_45 : decode cX0_select 45 = .ok (.iconst 1, 1) := by decide +kernel
theorem dX0_select_46 : decode cX0_select 46 = .ok (.iand, 1) := by decide +kernel
theorem dX0_select_47 : decode cX0_select 47 = .ok (.ifCond .eq 7, 3) := by decide +kernel
theorem dX0_select_50 : decode cX0_select 50 = .ok (.iconst 1, 1) := by decide +kernel
theorem dX0_select_51 : decode cX0_select 51 = .ok (.goto 4, 3) := by decide +kernel
theorem dX0_select_54 : decode cX0_select 54 = .ok (.iconst 0, 1) := by decide +kernel
theorem dX0_select_55 : decode cX0_select 55 = .ok (.istore 5, 2) := by decide +kernel
theorem dX0_select_57 : decode cX0_select 57 = .ok (.aload_n 0, 1) := by decide +kernel
theorem dX0_select_58 : decode cX0_select 58 = .ok (.iload_n 2, 1) := by decide +kernel
theorem dX0_select_59 : decode cX0_select 59 = .ok (.iload 4, 2) := by decide +kernel
theorem dX0_select_61 : decode cX0_select 61 = .ok (.invokevirtual 53, 3) := by decide +kernel
theorem dX0_select_64 : decode cX0_select 64 = .ok (.istore 6, 2) := by decide +kernel
theorem dX0_select_66 : decode cX0_select 66 = .ok (.iload 6, 2) := by decide +kernel
theorem dX0_select_68 : decode cX0_select 68 = .ok (.aload_n 0, 1) := by decide +kernel
theorem dX0_select_69 : decode cX0_select 69 = .ok (.iload_n 2, 1) := by decide +kernel
theorem dX0_select_70 : decode cX0_select 70 = .ok (.iload 4, 2) := by decide +kernel
theorem dX0_select_72 : decode cX0_select 72 = .ok (.invokevirtual 57, 3) := by decide +kernel
theorem dX0_select_75 : decode cX0_select 75 = .ok (.if_icmp .ge 49, 3) := by decide +kernel
theorem dX0_select_78 : decode cX0_select 78 = .ok (.iload 5, 2) := by decide +kernel
theorem dX0_select_80 : decode cX0_select 80 = .ok (.ifCond .eq 44, 3) := by decide +kernel
theorem dX0_select_83 : decode cX0_select 83 = .ok (.iload_n 3, 1) := by decide +kernel
theorem dX0_select_84 : decode cX0_select 84 = .ok (.bipush 6, 2) := by decide +kernel
theorem dX0_select_86 : decode cX0_select 86 = .ok (.aload_n 0, 1) := by decide +kernel
theorem dX0_select_87 : decode cX0_select 87 = .ok (.getfield 13, 3) := by decide +kernel
theorem dX0_select_90 : decode cX0_select 90 = .ok (.iload 6, 2) := by decide +kernel
theorem dX0_select_92 : decode cX0_select 92 = .ok (.baload, 1) := by decide +kernel
theorem dX0_select_93 : decode cX0_select 93 = .ok (.iadd, 1) := by decide +kernel
theorem dX0_select_94 : decode cX0_select 94 = .ok (.ishr, 1) := by decide +kernel
theorem dX0_select_95 : decode cX0_select 95 = .ok (.iconst 1, 1) := by decide +kernel
end
section
set_option maxRecDepth 100000
theorem dX0_select_96 : decode cX0_select 96 = .ok (.iand, 1) := by decide +kernel
theorem dX0_select_97 : decode cX0_select 97 = .ok (.ifCond .eq 21, 3) := by decide +kernel
theorem dX0_select_100 : decode cX0_select 100 = .ok (.aload_n 0, 1) := by decide +kernel
theorem dX0_select_101 : decode cX0_select 101 = .ok (.aload_n 0, 1) := by decide +kernel
theorem dX0_select_102 : decode cX0_select 102 = .ok (.getfield 13, 3) := by decide +kernel
theorem dX0_select_105 : decode cX0_select 105 = .ok (.iload 6, 2) := by decide +kernel
theorem dX0_select_107 : decode cX0_select 107 = .ok (.baload, 1) := by decide +kernel
theorem dX0_select_108 : decode cX0_select 108 = .ok (.aload_n 0, 1) := by decide +kernel
theorem dX0_select_109 : decode cX0_select 109 = .ok (.getfield 16, 3) := by decide +kernel
theorem dX0_select_112 : decode cX0_select 112 = .ok (.iload 6, 2) := by decide +kernel
theorem dX0_select_114 : decode cX0_select 114 = .ok (.iaload, 1) := by decide +kernel
theorem dX0_select_115 : decode cX0_select 115 = .ok (.invokevirtual 36, 3) := by decide +kernel
theorem dX0_select_118 : decode cX0_select 118 = .ok (.iinc 6 1, 3) := by decide +kernel
theorem dX0_select_121 : decode cX0_select 121 = .ok (.goto (-55), 3) := by decide +kernel
theorem dX0_select_124 : decode cX0_select 124 = .ok (.aload_n 0, 1) := by decide +kernel
theorem dX0_select_125 : decode cX0_select 125 = .ok (.iload 4, 2) := by decide +kernel
theorem dX0_select_127 : decode cX0_select 127 = .ok (.invokevirtual 63, 3) := by decide +kernel
theorem dX0_select_130 : decode cX0_select 130 = .ok (.iinc 4 1, 3) := by decide +kernel
theorem dX0_select_133 : decode cX0_select 133 = .ok (.goto (-99), 3) := by decide +kernel
theorem dX0_select_136 : decode cX0_select 136 = .ok (.aload_n 0, 1) := by decide +kernel
theorem dX0_select_137 : decode cX0_select 137 = .ok (.iload_n 1, 1) := by decide +kernel
theorem dX0_select_138 : decode cX0_select 138 = .ok (.invokevirtual 67, 3) := by decide +kernel
theorem dX0_select_141 : decode cX0_select 141 = .ok (.ireturn, 1) := by decide +kernel
theorem dX0_at_0 : decode cX0_at 0 = .ok (.iload_n 1, 1) := by decide +kernel
theorem dX0_at_1 : decode cX0_at 1 = .ok (.invokestatic 40, 3) := by decide +kernel
theorem dX0_at_4 : decode cX0_at 4 = .ok (.ifCond .eq 17, 3) := by decide +kernel
theorem dX0_at_7 : decode cX0_at 7 = .ok (.iload_n 2, 1) := by decide +kernel
theorem dX0_at_8 : decode cX0_at 8 = .ok (.invokestatic 44, 3) := by decide +kernel
theorem dX0_at_11 : decode cX0_at 11 = .ok (.ifCond .eq 10, 3) := by decide +kernel
theorem dX0_at_14 : decode cX0_at 14 = .ok (.iload_n 3, 1) := by decide +kernel
theorem dX0_at_15 : decode cX0_at 15 = .ok (.invokestatic 44, 3) := by decide +kernel
theorem dX0_at_18 : decode cX0_at 18 = .ok (.ifCond .ne 5, 3) := by decide +kernel
theorem dX0_at_21 : decode cX0_at 21 = .ok (.iconst 0, 1) := by decide +kernel
theorem dX0_at_22 : decode cX0_at 22 = .ok (.ireturn, 1) := by decide +kernel
theorem dX0_at_23 : decode cX0_at 23 = .ok (.aload_n 0, 1) := by decide +kernel
theorem dX0_at_24 : decode cX0_at 24 = .ok (.iload_n 1, 1) := by decide +kernel
theorem dX0_at_25 : decode cX0_at 25 = .ok (.iload_n 2, 1) := by decide +kernel
theorem dX0_at_26 : decode cX0_at 26 = .ok (.iload_n 3, 1) := by decide +kernel
theorem dX0_at_27 : decode cX0_at 27 = .ok (.invokevirtual 81, 3) := by decide +kernel
theorem dX0_at_30 : decode cX0_at 30 = .ok (.istore 4, 2) := by decide +kernel
theorem dX0_at_32 : decode cX0_at 32 = .ok (.iload 4, 2) := by decide +kernel
theorem dX0_at_34 : decode cX0_at 34 = .ok (.ifCond .ge 7, 3) := by decide +kernel
theorem dX0_at_37 : decode cX0_at 37 = .ok (.iconst 0, 1) := by decide +kernel
theorem dX0_at_38 : decode cX0_at 38 = .ok (.goto 10, 3) := by decide +kernel
theorem dX0_at_41 : decode cX0_at 41 = .ok (.aload_n 0, 1) := by decide +kernel
theorem dX0_at_42 : decode cX0_at 42 = .ok (.getfield 16, 3) := by decide +kernel
theorem dX0_at_45 : decode cX0_at 45 = .ok (.iload 4, 2) := by decide +kernel
theorem dX0_at_47 : decode cX0_at 47 = .ok (.iaload, 1) := by decide +kernel
theorem dX0_at_48 : decode cX0_at 48 = .ok (.ireturn, 1) := by decide +kernel
theorem dX0_count_0 : decode cX0_count 0 = .ok (.iload_n 1, 1) := by decide +kernel
theorem dX0_count_1 : decode cX0_count 1 = .ok (.invokestatic 40, 3) := by decide +kernel
theorem dX0_count_4 : decode cX0_count 4 = .ok (.ifCond .eq 18, 3) := by decide +kernel
theorem dX0_count_7 : decode cX0_count 7 = .ok (.aload_n 0, 1) := by decide +kernel
theorem dX0_count_8 : decode cX0_count 8 = .ok (.getfield 7, 3) := by decide +kernel
theorem dX0_count_11 : decode cX0_count 11 = .ok (.iload_n 1, 1) := by decide +kernel
theorem dX0_count_12 : decode cX0_count 12 = .ok (.bipush 7, 2) := by decide +kernel
theorem dX0_count_14 : decode cX0_count 14 = .ok (.imul, 1) := by decide +kernel
theorem dX0_count_15 : decode cX0_count 15 = .ok (.bipush 6, 2) := by decide +kernel
theorem dX0_count_17 : decode cX0_count 17 = .ok (.iadd, 1) := by decide +kernel
theorem dX0_count_18 : decode cX0_count 18 = .ok (.baload, 1) := by decide +kernel
theorem dX0_count_19 : decode cX0_count 19 = .ok (.goto 4, 3) := by decide +kernel
theorem dX0_count_22 : decode cX0_count 22 = .ok (.iconst (-1), 1) := by decide +kernel
theorem dX0_count_23 : decode cX0_count 23 = .ok (.ireturn, 1) := by decide +kernel
theorem dX0_next_0 : decode cX0_next 0 = .ok (.iload_n 1, 1) := by decide +kernel
theorem dX0_next_1 : decode cX0_next 1 = .ok (.invokestatic 40, 3) := by decide +kernel
theorem dX0_next_4 : decode cX0_next 4 = .ok (.ifCond .eq 10, 3) := by decide +kernel
theorem dX0_next_7 : decode cX0_next 7 = .ok (.iload_n 2, 1) := by decide +kernel
theorem dX0_next_8 : decode cX0_next 8 = .ok (.invokestatic 44, 3) := by decide +kernel
theorem dX0_next_11 : decode cX0_next 11 = .ok (.ifCond .ne 5, 3) := by decide +kernel
theorem dX0_next_14 : decode cX0_next 14 = .ok (.iconst (-1), 1) := by decide +kernel
theorem dX0_next_15 : decode cX0_next 15 = .ok (.ireturn, 1) := by decide +kernel
theorem dX0_next_16 : decode cX0_next 16 = .ok (.aload_n 0, 1) := by decide +kernel
theorem dX0_next_17 : decode cX0_next 17 = .ok (.iload_n 1, 1) := by decide +kernel
theorem dX0_next_18 : decode cX0_next 18 = .ok (.iload_n 2, 1) := by decide +kernel
theorem dX0_next_19 : decode cX0_next 19 = .ok (.invokevirtual 53, 3) := by decide +kernel
theorem dX0_next_22 : decode cX0_next 22 = .ok (.istore 4, 2) := by decide +kernel
theorem dX0_next_24 : decode cX0_next 24 = .ok (.iload 4, 2) := by decide +kernel
theorem dX0_next_26 : decode cX0_next 26 = .ok (.aload_n 0, 1) := by decide +kernel
theorem dX0_next_27 : decode cX0_next 27 = .ok (.iload_n 1, 1) := by decide +kernel
theorem dX0_next_28 : decode cX0_next 28 = .ok (.iload_n 2, 1) := by decide +kernel
theorem dX0_next_29 : decode cX0_next 29 = .ok (.invokevirtual 57, 3) := by decide +kernel
theorem dX0_next_32 : decode cX0_next 32 = .ok (.if_icmp .ge 28, 3) := by decide +kernel
theorem dX0_next_35 : decode cX0_next 35 = .ok (.aload_n 0, 1) := by decide +kernel
theorem dX0_next_36 : decode cX0_next 36 = .ok (.getfield 13, 3) := by decide +kernel
theorem dX0_next_39 : decode cX0_next 39 = .ok (.iload 4, 2) := by decide +kernel
theorem dX0_next_41 : decode cX0_next 41 = .ok (.baload, 1) := by decide +kernel
theorem dX0_next_42 : decode cX0_next 42 = .ok (.iload_n 3, 1) := by decide +kernel
theorem dX0_next_43 : decode cX0_next 43 = .ok (.if_icmp .lt 11, 3) := by decide +kernel
theorem dX0_next_46 : decode cX0_next 46 = .ok (.aload_n 0, 1) := by decide +kernel
theorem dX0_next_47 : decode cX0_next 47 = .ok (.getfield 13, 3) := by decide +kernel
theorem dX0_next_50 : decode cX0_next 50 = .ok (.iload 4, 2) := by decide +kernel
theorem dX0_next_52 : decode cX0_next 52 = .ok (.baload, 1) := by decide +kernel
theorem dX0_next_53 : decode cX0_next 53 = .ok (.ireturn, 1) := by decide +kernel
theorem dX0_next_54 : decode cX0_next 54 = .ok (.iinc 4 1, 3) := by decide +kernel
theorem dX0_next_57 : decode cX0_next 57 = .ok (.goto (-33), 3) := by decide +kernel
theorem dX0_next_60 : decode cX0_next 60 = .ok (.iconst (-1), 1) := by decide +kernel
theorem dX0_next_61 : decode cX0_next 61 = .ok (.ireturn, 1) := by decide +kernel
theorem dX0_rowsProduct_0 : decode cX0_rowsProduct 0 = .ok (.iload_n 1, 1) := by decide +kernel
theorem dX0_rowsProduct_1 : decode cX0_rowsProduct 1 = .ok (.invokestatic 40, 3) := by decide +kernel
theorem dX0_rowsProduct_4 : decode cX0_rowsProduct 4 = .ok (.ifCond .eq 25, 3) := by decide +kernel
theorem dX0_rowsProduct_7 : decode cX0_rowsProduct 7 = .ok (.iload_n 2, 1) := by decide +kernel
theorem dX0_rowsProduct_8 : decode cX0_rowsProduct 8 = .ok (.invokestatic 44, 3) := by decide +kernel
theorem dX0_rowsProduct_11 : decode cX0_rowsProduct 11 = .ok (.ifCond .eq 18, 3) := by decide +kernel
theorem dX0_rowsProduct_14 : decode cX0_rowsProduct 14 = .ok (.iload_n 3, 1) := by decide +kernel
theorem dX0_rowsProduct_15 : decode cX0_rowsProduct 15 = .ok (.invokestatic 40, 3) := by decide +kernel
theorem dX0_rowsProduct_18 : decode cX0_rowsProduct 18 = .ok (.ifCond .eq 11, 3) := by decide +kernel
theorem dX0_rowsProduct_21 : decode cX0_rowsProduct 21 = .ok (.iload 4, 2) := by decide +kernel
theorem dX0_rowsProduct_23 : decode cX0_rowsProduct 23 = .ok (.invokestatic 44, 3) := by decide +kernel
theorem dX0_rowsProduct_26 : decode cX0_rowsProduct 26 = .ok (.ifCond .ne 5, 3) := by decide +kernel
theorem dX0_rowsProduct_29 : decode cX0_rowsProduct 29 = .ok (.iconst 0, 1) := by decide +kernel
theorem dX0_rowsProduct_30 : decode cX0_rowsProduct 30 = .ok (.ireturn, 1) := by decide +kernel
theorem dX0_rowsProduct_31 : decode cX0_rowsProduct 31 = .ok (.iconst 0, 1) := by decide +kernel
theorem dX0_rowsProduct_32 : decode cX0_rowsProduct 32 = .ok (.istore 5, 2) := by decide +kernel
theorem dX0_rowsProduct_34 : decode cX0_rowsProduct 34 = .ok (.aload_n 0, 1) := by decide +kernel
theorem dX0_rowsProduct_35 : decode cX0_rowsProduct 35 = .ok (.iload_n 3, 1) := by decide +kernel
theorem dX0_rowsProduct_36 : decode cX0_rowsProduct 36 = .ok (.iload 4, 2) := by decide +kernel
theorem dX0_rowsProduct_38 : decode cX0_rowsProduct 38 = .ok (.invokevirtual 53, 3) := by decide +kernel
theorem dX0_rowsProduct_41 : decode cX0_rowsProduct 41 = .ok (.istore 6, 2) := by decide +kernel
theorem dX0_rowsProduct_43 : decode cX0_rowsProduct 43 = .ok (.aload_n 0, 1) := by decide +kernel
theorem dX0_rowsProduct_44 : decode cX0_rowsProduct 44 = .ok (.iload_n 1, 1) := by decide +kernel
theorem dX0_rowsProduct_45 : decode cX0_rowsProduct 45 = .ok (.iload_n 2, 1) := by decide +kernel
theorem dX0_rowsProduct_46 : decode cX0_rowsProduct 46 = .ok (.invokevirtual 53, 3) := by decide +kernel
theorem dX0_rowsProduct_49 : decode cX0_rowsProduct 49 = .ok (.istore 7, 2) := by decide +kernel
theorem dX0_rowsProduct_51 : decode cX0_rowsProduct 51 = .ok (.iload 7, 2) := by decide +kernel
theorem dX0_rowsProduct_53 : decode cX0_rowsProduct 53 = .ok (.aload_n 0, 1) := by decide +kernel
theorem dX0_rowsProduct_54 : decode cX0_rowsProduct 54 = .ok (.iload_n 1, 1) := by decide +kernel
theorem dX0_rowsProduct_55 : decode cX0_rowsProduct 55 = .ok (.iload_n 2, 1) := by decide +kernel
theorem dX0_rowsProduct_56 : decode cX0_rowsProduct 56 = .ok (.invokevirtual 57, 3) := by decide +kernel
theorem dX0_rowsProduct_59 : decode cX0_rowsProduct 59 = .ok (.if_icmp .ge 93, 3) := by decide +kernel
theorem dX0_rowsProduct_62 : decode cX0_rowsProduct 62 = .ok (.iload 6, 2) := by decide +kernel
theorem dX0_rowsProduct_64 : decode cX0_rowsProduct 64 = .ok (.aload_n 0, 1) := by decide +kernel
theorem dX0_rowsProduct_65 : decode cX0_rowsProduct 65 = .ok (.iload_n 3, 1) := by decide +kernel
theorem dX0_rowsProduct_66 : decode cX0_rowsProduct 66 = .ok (.iload 4, 2) := by decide +kernel
theorem dX0_rowsProduct_68 : decode cX0_rowsProduct 68 = .ok (.invokevirtual 57, 3) := by decide +kernel
theorem dX0_rowsProduct_71 : decode cX0_rowsProduct 71 = .ok (.if_icmp .ge 26, 3) := by decide +kernel
theorem dX0_rowsProduct_74 : decode cX0_rowsProduct 74 = .ok (.aload_n 0, 1) := by decide +kernel
theorem dX0_rowsProduct_75 : decode cX0_rowsProduct 75 = .ok (.getfield 13, 3) := by decide +kernel
theorem dX0_rowsProduct_78 : decode cX0_rowsProduct 78 = .ok (.iload 6, 2) := by decide +kernel
theorem dX0_rowsProduct_80 : decode cX0_rowsProduct 80 = .ok (.baload, 1) := by decide +kernel
theorem dX0_rowsProduct_81 : decode cX0_rowsProduct 81 = .ok (.aload_n 0, 1) := by decide +kernel
theorem dX0_rowsProduct_82 : decode cX0_rowsProduct 82 = .ok (.getfield 13, 3) := by decide +kernel
theorem dX0_rowsProduct_85 : decode cX0_rowsProduct 85 = .ok (.iload 7, 2) := by decide +kernel
theorem dX0_rowsProduct_87 : decode cX0_rowsProduct 87 = .ok (.baload, 1) := by decide +kernel
theorem dX0_rowsProduct_88 : decode cX0_rowsProduct 88 = .ok (.if_icmp .ge 9, 3) := by decide +kernel
theorem dX0_rowsProduct_91 : decode cX0_rowsProduct 91 = .ok (.iinc 6 1, 3) := by decide +kernel
theorem dX0_rowsProduct_94 : decode cX0_rowsProduct 94 = .ok (.goto (-32), 3) := by decide +kernel
theorem dX0_rowsProduct_97 : decode cX0_rowsProduct 97 = .ok (.iload 6, 2) := by decide +kernel
theorem dX0_rowsProduct_99 : decode cX0_rowsProduct 99 = .ok (.aload_n 0, 1) := by decide +kernel
theorem dX0_rowsProduct_100 : decode cX0_rowsProduct 100 = .ok (.iload_n 3, 1) := by decide +kernel
theorem dX0_rowsProduct_101 : decode cX0_rowsProduct 101 = .ok (.iload 4, 2) := by decide +kernel
theorem dX0_rowsProduct_103 : decode cX0_rowsProduct 103 = .ok (.invokevirtual 57, 3) := by decide +kernel
theorem dX0_rowsProduct_106 : decode cX0_rowsProduct 106 = .ok (.if_icmp .ge 40, 3) := by decide +kernel
theorem dX0_rowsProduct_109 : decode cX0_rowsProduct 109 = .ok (.aload_n 0, 1) := by decide +kernel
theorem dX0_rowsProduct_110 : decode cX0_rowsProduct 110 = .ok (.getfield 13, 3) := by decide +kernel
theorem dX0_rowsProduct_113 : decode cX0_rowsProduct 113 = .ok (.iload 6, 2) := by decide +kernel
theorem dX0_rowsProduct_115 : decode cX0_rowsProduct 115 = .ok (.baload, 1) := by decide +kernel
theorem dX0_rowsProduct_116 : decode cX0_rowsProduct 116 = .ok (.aload_n 0, 1) := by decide +kernel
theorem dX0_rowsProduct_117 : decode cX0_rowsProduct 117 = .ok (.getfield 13, 3) := by decide +kernel
theorem dX0_rowsProduct_120 : decode cX0_rowsProduct 120 = .ok (.iload 7, 2) := by decide +kernel
theorem dX0_rowsProduct_122 : decode cX0_rowsProduct 122 = .ok (.baload, 1) := by decide +kernel
theorem dX0_rowsProduct_123 : decode cX0_rowsProduct 123 = .ok (.if_icmp .ne 23, 3) := by decide +kernel
theorem dX0_rowsProduct_126 : decode cX0_rowsProduct 126 = .ok (.iload 5, 2) := by decide +kernel
theorem dX0_rowsProduct_128 : decode cX0_rowsProduct 128 = .ok (.aload_n 0, 1) := by decide +kernel
theorem dX0_rowsProduct_129 : decode cX0_rowsProduct 129 = .ok (.getfield 16, 3) := by decide +kernel
theorem dX0_rowsProduct_132 : decode cX0_rowsProduct 132 = .ok (.iload 7, 2) := by decide +kernel
theorem dX0_rowsProduct_134 : decode cX0_rowsProduct 134 = .ok (.iaload, 1) := by decide +kernel
theorem dX0_rowsProduct_135 : decode cX0_rowsProduct 135 = .ok (.aload_n 0, 1) := by decide +kernel
theorem dX0_rowsProduct_136 : decode cX0_rowsProduct 136 = .ok (.getfield 16, 3) := by decide +kernel
theorem dX0_rowsProduct_139 : decode cX0_rowsProduct 139 = .ok (.iload 6, 2) := by decide +kernel
theorem dX0_rowsProduct_141 : decode cX0_rowsProduct 141 = .ok (.iaload, 1) := by decide +kernel
theorem dX0_rowsProduct_142 : decode cX0_rowsProduct 142 = .ok (.imul, 1) := by decide +kernel
theorem dX0_rowsProduct_143 : decode cX0_rowsProduct 143 = .ok (.iadd, 1) := by decide +kernel
theorem dX0_rowsProduct_144 : decode cX0_rowsProduct 144 = .ok (.istore 5, 2) := by decide +kernel
theorem dX0_rowsProduct_146 : decode cX0_rowsProduct 146 = .ok (.iinc 7 1, 3) := by decide +kernel
theorem dX0_rowsProduct_149 : decode cX0_rowsProduct 149 = .ok (.goto (-98), 3) := by decide +kernel
theorem dX0_rowsProduct_152 : decode cX0_rowsProduct 152 = .ok (.iload 5, 2) := by decide +kernel
theorem dX0_rowsProduct_154 : decode cX0_rowsProduct 154 = .ok (.ireturn, 1) := by decide +kernel
theorem dX0_sum_0 : decode cX0_sum 0 = .ok (.iload_n 1, 1) := by decide +kernel
theorem dX0_sum_1 : decode cX0_sum 1 = .ok (.invokestatic 40, 3) := by decide +kernel
theorem dX0_sum_4 : decode cX0_sum 4 = .ok (.ifCond .eq 24, 3) := by decide +kernel
theorem dX0_sum_7 : decode cX0_sum 7 = .ok (.iload_n 2, 1) := by decide +kernel
theorem dX0_sum_8 : decode cX0_sum 8 = .ok (.ifCond .lt 20, 3) := by decide +kernel
theorem dX0_sum_11 : decode cX0_sum 11 = .ok (.iload_n 2, 1) := by decide +kernel
theorem dX0_sum_12 : decode cX0_sum 12 = .ok (.iconst 2, 1) := by decide +kernel
theorem dX0_sum_13 : decode cX0_sum 13 = .ok (.if_icmp .gt 15, 3) := by decide +kernel
theorem dX0_sum_16 : decode cX0_sum 16 = .ok (.iload_n 2, 1) := by decide +kernel
theorem dX0_sum_17 : decode cX0_sum 17 = .ok (.iconst 2, 1) := by decide +kernel
theorem dX0_sum_18 : decode cX0_sum 18 = .ok (.if_icmp .ge 12, 3) := by decide +kernel
theorem dX0_sum_21 : decode cX0_sum 21 = .ok (.iload_n 3, 1) := by decide +kernel
theorem dX0_sum_22 : decode cX0_sum 22 = .ok (.invokestatic 44, 3) := by decide +kernel
theorem dX0_sum_25 : decode cX0_sum 25 = .ok (.ifCond .ne 5, 3) := by decide +kernel
theorem dX0_sum_28 : decode cX0_sum 28 = .ok (.iconst 0, 1) := by decide +kernel
theorem dX0_sum_29 : decode cX0_sum 29 = .ok (.ireturn, 1) := by decide +kernel
theorem dX0_sum_30 : decode cX0_sum 30 = .ok (.iconst 0, 1) := by decide +kernel
theorem dX0_sum_31 : decode cX0_sum 31 = .ok (.istore 4, 2) := by decide +kernel
theorem dX0_sum_33 : decode cX0_sum 33 = .ok (.iconst 0, 1) := by decide +kernel
theorem dX0_sum_34 : decode cX0_sum 34 = .ok (.istore 5, 2) := by decide +kernel
theorem dX0_sum_36 : decode cX0_sum 36 = .ok (.iload 5, 2) := by decide +kernel
theorem dX0_sum_38 : decode cX0_sum 38 = .ok (.bipush 6, 2) := by decide +kernel
theorem dX0_sum_40 : decode cX0_sum 40 = .ok (.if_icmp .ge 118, 3) := by decide +kernel
theorem dX0_sum_43 : decode cX0_sum 43 = .ok (.aload_n 0, 1) := by decide +kernel
theorem dX0_sum_44 : decode cX0_sum 44 = .ok (.iload_n 1, 1) := by decide +kernel
theorem dX0_sum_45 : decode cX0_sum 45 = .ok (.iload 5, 2) := by decide +kernel
theorem dX0_sum_47 : decode cX0_sum 47 = .ok (.invokevirtual 53, 3) := by decide +kernel
theorem dX0_sum_50 : decode cX0_sum 50 = .ok (.istore 6, 2) := by decide +kernel
theorem dX0_sum_52 : decode cX0_sum 52 = .ok (.iload 6, 2) := by decide +kernel
theorem dX0_sum_54 : decode cX0_sum 54 = .ok (.aload_n 0, 1) := by decide +kernel
theorem dX0_sum_55 : decode cX0_sum 55 = .ok (.iload_n 1, 1) := by decide +kernel
theorem dX0_sum_56 : decode cX0_sum 56 = .ok (.iload 5, 2) := by decide +kernel
theorem dX0_sum_58 : decode cX0_sum 58 = .ok (.invokevirtual 57, 3) := by decide +kernel
theorem dX0_sum_61 : decode cX0_sum 61 = .ok (.if_icmp .ge 91, 3) := by decide +kernel
theorem dX0_sum_64 : decode cX0_sum 64 = .ok (.iload_n 2, 1) := by decide +kernel
theorem dX0_sum_65 : decode cX0_sum 65 = .ok (.ifCond .ne 17, 3) := by decide +kernel
theorem dX0_sum_68 : decode cX0_sum 68 = .ok (.iload 5, 2) := by decide +kernel
theorem dX0_sum_70 : decode cX0_sum 70 = .ok (.iload_n 3, 1) := by decide +kernel
theorem dX0_sum_71 : decode cX0_sum 71 = .ok (.if_icmp .ne 7, 3) := by decide +kernel
theorem dX0_sum_74 : decode cX0_sum 74 = .ok (.iconst 1, 1) := by decide +kernel
theorem dX0_sum_75 : decode cX0_sum 75 = .ok (.goto 48, 3) := by decide +kernel
theorem dX0_sum_78 : decode cX0_sum 78 = .ok (.iconst 0, 1) := by decide +kernel
theorem dX0_sum_79 : decode cX0_sum 79 = .ok (.goto 44, 3) := by decide +kernel
theorem dX0_sum_82 : decode cX0_sum 82 = .ok (.iload_n 2, 1) := by decide +kernel
theorem dX0_sum_83 : decode cX0_sum 83 = .ok (.iconst 1, 1) := by decide +kernel
theorem dX0_sum_84 : decode cX0_sum 84 = .ok (.if_icmp .ne 22, 3) := by decide +kernel
theorem dX0_sum_87 : decode cX0_sum 87 = .ok (.aload_n 0, 1) := by decide +kernel
theorem dX0_sum_88 : decode cX0_sum 88 = .ok (.getfield 13, 3) := by decide +kernel
theorem dX0_sum_91 : decode cX0_sum 91 = .ok (.iload 6, 2) := by decide +kernel
theorem dX0_sum_93 : decode cX0_sum 93 = .ok (.baload, 1) := by decide +kernel
theorem dX0_sum_94 : decode cX0_sum 94 = .ok (.iload_n 3, 1) := by decide +kernel
theorem dX0_sum_95 : decode cX0_sum 95 = .ok (.if_icmp .ne 7, 3) := by decide +kernel
theorem dX0_sum_98 : decode cX0_sum 98 = .ok (.iconst 1, 1) := by decide +kernel
theorem dX0_sum_99 : decode cX0_sum 99 = .ok (.goto 24, 3) := by decide +kernel
theorem dX0_sum_102 : decode cX0_sum 102 = .ok (.iconst 0, 1) := by decide +kernel
theorem dX0_sum_103 : decode cX0_sum 103 = .ok (.goto 20, 3) := by decide +kernel
theorem dX0_sum_106 : decode cX0_sum 106 = .ok (.aload_n 0, 1) := by decide +kernel
theorem dX0_sum_107 : decode cX0_sum 107 = .ok (.getfield 13, 3) := by decide +kernel
theorem dX0_sum_110 : decode cX0_sum 110 = .ok (.iload 6, 2) := by decide +kernel
theorem dX0_sum_112 : decode cX0_sum 112 = .ok (.baload, 1) := by decide +kernel
theorem dX0_sum_113 : decode cX0_sum 113 = .ok (.iload 5, 2) := by decide +kernel
theorem dX0_sum_115 : decode cX0_sum 115 = .ok (.if_icmp .ne 7, 3) := by decide +kernel
theorem dX0_sum_118 : decode cX0_sum 118 = .ok (.iconst 1, 1) := by decide +kernel
theorem dX0_sum_119 : decode cX0_sum 119 = .ok (.goto 4, 3) := by decide +kernel
theorem dX0_sum_122 : decode cX0_sum 122 = .ok (.iconst 0, 1) := by decide +kernel
theorem dX0_sum_123 : decode cX0_sum 123 = .ok (.istore 7, 2) := by decide +kernel
theorem dX0_sum_125 : decode cX0_sum 125 = .ok (.iload 4, 2) := by decide +kernel
theorem dX0_sum_127 : decode cX0_sum 127 = .ok (.iload 7, 2) := by decide +kernel
theorem dX0_sum_129 : decode cX0_sum 129 = .ok (.ifCond .eq 13, 3) := by decide +kernel
theorem dX0_sum_132 : decode cX0_sum 132 = .ok (.aload_n 0, 1) := by decide +kernel
theorem dX0_sum_133 : decode cX0_sum 133 = .ok (.getfield 16, 3) := by decide +kernel
theorem dX0_sum_136 : decode cX0_sum 136 = .ok (.iload 6, 2) := by decide +kernel
theorem dX0_sum_138 : decode cX0_sum 138 = .ok (.iaload, 1) := by decide +kernel
theorem dX0_sum_139 : decode cX0_sum 139 = .ok (.goto 4, 3) := by decide +kernel
theorem dX0_sum_142 : decode cX0_sum 142 = .ok (.iconst 0, 1) := by decide +kernel
theorem dX0_sum_143 : decode cX0_sum 143 = .ok (.iadd, 1) := by decide +kernel
theorem dX0_sum_144 : decode cX0_sum 144 = .ok (.istore 4, 2) := by decide +kernel
theorem dX0_sum_146 : decode cX0_sum 146 = .ok (.iinc 6 1, 3) := by decide +kernel
theorem dX0_sum_149 : decode cX0_sum 149 = .ok (.goto (-97), 3) := by decide +kernel
theorem dX0_sum_152 : decode cX0_sum 152 = .ok (.iinc 5 1, 3) := by decide +kernel
theorem dX0_sum_155 : decode cX0_sum 155 = .ok (.goto (-119), 3) := by decide +kernel
theorem dX0_sum_158 : decode cX0_sum 158 = .ok (.iload 4, 2) := by decide +kernel
theorem dX0_sum_160 : decode cX0_sum 160 = .ok (.ireturn, 1) := by decide +kernel
theorem dX0_same_0 : decode cX0_same 0 = .ok (.iload_n 1, 1) := by decide +kernel
theorem dX0_same_1 : decode cX0_same 1 = .ok (.invokestatic 40, 3) := by decide +kernel
theorem dX0_same_4 : decode cX0_same 4 = .ok (.ifCond .eq 10, 3) := by decide +kernel
theorem dX0_same_7 : decode cX0_same 7 = .ok (.iload_n 2, 1) := by decide +kernel
theorem dX0_same_8 : decode cX0_same 8 = .ok (.invokestatic 40, 3) := by decide +kernel
theorem dX0_same_11 : decode cX0_same 11 = .ok (.ifCond .ne 5, 3) := by decide +kernel
theorem dX0_same_14 : decode cX0_same 14 = .ok (.iconst 0, 1) := by decide +kernel
theorem dX0_same_15 : decode cX0_same 15 = .ok (.ireturn, 1) := by decide +kernel
theorem dX0_same_16 : decode cX0_same 16 = .ok (.iconst 0, 1) := by decide +kernel
theorem dX0_same_17 : decode cX0_same 17 = .ok (.istore_n 3, 1) := by decide +kernel
theorem dX0_same_18 : decode cX0_same 18 = .ok (.iload_n 3, 1) := by decide +kernel
theorem dX0_same_19 : decode cX0_same 19 = .ok (.bipush 6, 2) := by decide +kernel
theorem dX0_same_21 : decode cX0_same 21 = .ok (.if_icmp .gt 36, 3) := by decide +kernel
theorem dX0_same_24 : decode cX0_same 24 = .ok (.aload_n 0, 1) := by decide +kernel
theorem dX0_same_25 : decode cX0_same 25 = .ok (.getfield 7, 3) := by decide +kernel
theorem dX0_same_28 : decode cX0_same 28 = .ok (.iload_n 1, 1) := by decide +kernel
theorem dX0_same_29 : decode cX0_same 29 = .ok (.bipush 7, 2) := by decide +kernel
theorem dX0_same_31 : decode cX0_same 31 = .ok (.imul, 1) := by decide +kernel
theorem dX0_same_32 : decode cX0_same 32 = .ok (.iload_n 3, 1) := by decide +kernel
theorem dX0_same_33 : decode cX0_same 33 = .ok (.iadd, 1) := by decide +kernel
theorem dX0_same_34 : decode cX0_same 34 = .ok (.baload, 1) := by decide +kernel
theorem dX0_same_35 : decode cX0_same 35 = .ok (.aload_n 0, 1) := by decide +kernel
theorem dX0_same_36 : decode cX0_same 36 = .ok (.getfield 7, 3) := by decide +kernel
theorem dX0_same_39 : decode cX0_same 39 = .ok (.iload_n 2, 1) := by decide +kernel
theorem dX0_same_40 : decode cX0_same 40 = .ok (.bipush 7, 2) := by decide +kernel
theorem dX0_same_42 : decode cX0_same 42 = .ok (.imul, 1) := by decide +kernel
theorem dX0_same_43 : decode cX0_same 43 = .ok (.iload_n 3, 1) := by decide +kernel
theorem dX0_same_44 : decode cX0_same 44 = .ok (.iadd, 1) := by decide +kernel
theorem dX0_same_45 : decode cX0_same 45 = .ok (.baload, 1) := by decide +kernel
theorem dX0_same_46 : decode cX0_same 46 = .ok (.if_icmp .eq 5, 3) := by decide +kernel
theorem dX0_same_49 : decode cX0_same 49 = .ok (.iconst 0, 1) := by decide +kernel
theorem dX0_same_50 : decode cX0_same 50 = .ok (.ireturn, 1) := by decide +kernel
theorem dX0_same_51 : decode cX0_same 51 = .ok (.iinc 3 1, 3) := by decide +kernel
theorem dX0_same_54 : decode cX0_same 54 = .ok (.goto (-36), 3) := by decide +kernel
theorem dX0_same_57 : decode cX0_same 57 = .ok (.iconst 0, 1) := by decide +kernel
theorem dX0_same_58 : decode cX0_same 58 = .ok (.istore_n 3, 1) := by decide +kernel
theorem dX0_same_59 : decode cX0_same 59 = .ok (.iload_n 3, 1) := by decide +kernel
theorem dX0_same_60 : decode cX0_same 60 = .ok (.aload_n 0, 1) := by decide +kernel
theorem dX0_same_61 : decode cX0_same 61 = .ok (.getfield 7, 3) := by decide +kernel
theorem dX0_same_64 : decode cX0_same 64 = .ok (.iload_n 1, 1) := by decide +kernel
theorem dX0_same_65 : decode cX0_same 65 = .ok (.bipush 7, 2) := by decide +kernel
theorem dX0_same_67 : decode cX0_same 67 = .ok (.imul, 1) := by decide +kernel
theorem dX0_same_68 : decode cX0_same 68 = .ok (.bipush 6, 2) := by decide +kernel
theorem dX0_same_70 : decode cX0_same 70 = .ok (.iadd, 1) := by decide +kernel
theorem dX0_same_71 : decode cX0_same 71 = .ok (.baload, 1) := by decide +kernel
theorem dX0_same_72 : decode cX0_same 72 = .ok (.if_icmp .ge 61, 3) := by decide +kernel
theorem dX0_same_75 : decode cX0_same 75 = .ok (.iload_n 1, 1) := by decide +kernel
theorem dX0_same_76 : decode cX0_same 76 = .ok (.bipush 36, 2) := by decide +kernel
theorem dX0_same_78 : decode cX0_same 78 = .ok (.imul, 1) := by decide +kernel
theorem dX0_same_79 : decode cX0_same 79 = .ok (.iload_n 3, 1) := by decide +kernel
theorem dX0_same_80 : decode cX0_same 80 = .ok (.iadd, 1) := by decide +kernel
theorem dX0_same_81 : decode cX0_same 81 = .ok (.istore 4, 2) := by decide +kernel
theorem dX0_same_83 : decode cX0_same 83 = .ok (.iload_n 2, 1) := by decide +kernel
theorem dX0_same_84 : decode cX0_same 84 = .ok (.bipush 36, 2) := by decide +kernel
theorem dX0_same_86 : decode cX0_same 86 = .ok (.imul, 1) := by decide +kernel
theorem dX0_same_87 : decode cX0_same 87 = .ok (.iload_n 3, 1) := by decide +kernel
theorem dX0_same_88 : decode cX0_same 88 = .ok (.iadd, 1) := by decide +kernel
theorem dX0_same_89 : decode cX0_same 89 = .ok (.istore 5, 2) := by decide +kernel
theorem dX0_same_91 : decode cX0_same 91 = .ok (.aload_n 0, 1) := by decide +kernel
theorem dX0_same_92 : decode cX0_same 92 = .ok (.getfield 13, 3) := by decide +kernel
theorem dX0_same_95 : decode cX0_same 95 = .ok (.iload 4, 2) := by decide +kernel
theorem dX0_same_97 : decode cX0_same 97 = .ok (.baload, 1) := by decide +kernel
theorem dX0_same_98 : decode cX0_same 98 = .ok (.aload_n 0, 1) := by decide +kernel
theorem dX0_same_99 : decode cX0_same 99 = .ok (.getfield 13, 3) := by decide +kernel
theorem dX0_same_102 : decode cX0_same 102 = .ok (.iload 5, 2) := by decide +kernel
theorem dX0_same_104 : decode cX0_same 104 = .ok (.baload, 1) := by decide +kernel
theorem dX0_same_105 : decode cX0_same 105 = .ok (.if_icmp .ne 20, 3) := by decide +kernel
theorem dX0_same_108 : decode cX0_same 108 = .ok (.aload_n 0, 1) := by decide +kernel
theorem dX0_same_109 : decode cX0_same 109 = .ok (.getfield 16, 3) := by decide +kernel
theorem dX0_same_112 : decode cX0_same 112 = .ok (.iload 4, 2) := by decide +kernel
theorem dX0_same_114 : decode cX0_same 114 = .ok (.iaload, 1) := by decide +kernel
theorem dX0_same_115 : decode cX0_same 115 = .ok (.aload_n 0, 1) := by decide +kernel
theorem dX0_same_116 : decode cX0_same 116 = .ok (.getfield 16, 3) := by decide +kernel
theorem dX0_same_119 : decode cX0_same 119 = .ok (.iload 5, 2) := by decide +kernel
theorem dX0_same_121 : decode cX0_same 121 = .ok (.iaload, 1) := by decide +kernel
theorem dX0_same_122 : decode cX0_same 122 = .ok (.if_icmp .eq 5, 3) := by decide +kernel
theorem dX0_same_125 : decode cX0_same 125 = .ok (.iconst 0, 1) := by decide +kernel
theorem dX0_same_126 : decode cX0_same 126 = .ok (.ireturn, 1) := by decide +kernel
theorem dX0_same_127 : decode cX0_same 127 = .ok (.iinc 3 1, 3) := by decide +kernel
theorem dX0_same_130 : decode cX0_same 130 = .ok (.goto (-71), 3) := by decide +kernel
theorem dX0_same_133 : decode cX0_same 133 = .ok (.iconst 1, 1) := by decide +kernel
theorem dX0_same_134 : decode cX0_same 134 = .ok (.ireturn, 1) := by decide +kernel
theorem dX0_symmetric_0 : decode cX0_symmetric 0 = .ok (.iload_n 1, 1) := by decide +kernel
theorem dX0_symmetric_1 : decode cX0_symmetric 1 = .ok (.invokestatic 40, 3) := by decide +kernel
theorem dX0_symmetric_4 : decode cX0_symmetric 4 = .ok (.ifCond .ne 5, 3) := by decide +kernel
theorem dX0_symmetric_7 : decode cX0_symmetric 7 = .ok (.iconst 0, 1) := by decide +kernel
theorem dX0_symmetric_8 : decode cX0_symmetric 8 = .ok (.ireturn, 1) := by decide +kernel
theorem dX0_symmetric_9 : decode cX0_symmetric 9 = .ok (.iconst 0, 1) := by decide +kernel
theorem dX0_symmetric_10 : decode cX0_symmetric 10 = .ok (.istore_n 2, 1) := by decide +kernel
theorem dX0_symmetric_11 : decode cX0_symmetric 11 = .ok (.iload_n 2, 1) := by decide +kernel
theorem dX0_symmetric_12 : decode cX0_symmetric 12 = .ok (.bipush 6, 2) := by decide +kernel
theorem dX0_symmetric_14 : decode cX0_symmetric 14 = .ok (.if_icmp .ge 69, 3) := by decide +kernel
theorem dX0_symmetric_17 : decode cX0_symmetric 17 = .ok (.aload_n 0, 1) := by decide +kernel
theorem dX0_symmetric_18 : decode cX0_symmetric 18 = .ok (.iload_n 1, 1) := by decide +kernel
theorem dX0_symmetric_19 : decode cX0_symmetric 19 = .ok (.iload_n 2, 1) := by decide +kernel
theorem dX0_symmetric_20 : decode cX0_symmetric 20 = .ok (.invokevirtual 53, 3) := by decide +kernel
theorem dX0_symmetric_23 : decode cX0_symmetric 23 = .ok (.istore_n 3, 1) := by decide +kernel
theorem dX0_symmetric_24 : decode cX0_symmetric 24 = .ok (.iload_n 3, 1) := by decide +kernel
theorem dX0_symmetric_25 : decode cX0_symmetric 25 = .ok (.aload_n 0, 1) := by decide +kernel
theorem dX0_symmetric_26 : decode cX0_symmetric 26 = .ok (.iload_n 1, 1) := by decide +kernel
theorem dX0_symmetric_27 : decode cX0_symmetric 27 = .ok (.iload_n 2, 1) := by decide +kernel
theorem dX0_symmetric_28 : decode cX0_symmetric 28 = .ok (.invokevirtual 57, 3) := by decide +kernel
theorem dX0_symmetric_31 : decode cX0_symmetric 31 = .ok (.if_icmp .ge 46, 3) := by decide +kernel
theorem dX0_symmetric_34 : decode cX0_symmetric 34 = .ok (.aload_n 0, 1) := by decide +kernel
theorem dX0_symmetric_35 : decode cX0_symmetric 35 = .ok (.iload_n 1, 1) := by decide +kernel
theorem dX0_symmetric_36 : decode cX0_symmetric 36 = .ok (.aload_n 0, 1) := by decide +kernel
theorem dX0_symmetric_37 : decode cX0_symmetric 37 = .ok (.getfield 13, 3) := by decide +kernel
theorem dX0_symmetric_40 : decode cX0_symmetric 40 = .ok (.iload_n 3, 1) := by decide +kernel
theorem dX0_symmetric_41 : decode cX0_symmetric 41 = .ok (.baload, 1) := by decide +kernel
theorem dX0_symmetric_42 : decode cX0_symmetric 42 = .ok (.iload_n 2, 1) := by decide +kernel
theorem dX0_symmetric_43 : decode cX0_symmetric 43 = .ok (.invokevirtual 81, 3) := by decide +kernel
theorem dX0_symmetric_46 : decode cX0_symmetric 46 = .ok (.istore 4, 2) := by decide +kernel
theorem dX0_symmetric_48 : decode cX0_symmetric 48 = .ok (.iload 4, 2) := by decide +kernel
theorem dX0_symmetric_50 : decode cX0_symmetric 50 = .ok (.ifCond .lt 19, 3) := by decide +kernel
theorem dX0_symmetric_53 : decode cX0_symmetric 53 = .ok (.aload_n 0, 1) := by decide +kernel
theorem dX0_symmetric_54 : decode cX0_symmetric 54 = .ok (.getfield 16, 3) := by decide +kernel
theorem dX0_symmetric_57 : decode cX0_symmetric 57 = .ok (.iload 4, 2) := by decide +kernel
theorem dX0_symmetric_59 : decode cX0_symmetric 59 = .ok (.iaload, 1) := by decide +kernel
theorem dX0_symmetric_60 : decode cX0_symmetric 60 = .ok (.aload_n 0, 1) := by decide +kernel
theorem dX0_symmetric_61 : decode cX0_symmetric 61 = .ok (.getfield 16, 3) := by decide +kernel
theorem dX0_symmetric_64 : decode cX0_symmetric 64 = .ok (.iload_n 3, 1) := by decide +kernel
theorem dX0_symmetric_65 : decode cX0_symmetric 65 = .ok (.iaload, 1) := by decide +kernel
theorem dX0_symmetric_66 : decode cX0_symmetric 66 = .ok (.if_icmp .eq 5, 3) := by decide +kernel
theorem dX0_symmetric_69 : decode cX0_symmetric 69 = .ok (.iconst 0, 1) := by decide +kernel
theorem dX0_symmetric_70 : decode cX0_symmetric 70 = .ok (.ireturn, 1) := by decide +kernel
theorem dX0_symmetric_71 : decode cX0_symmetric 71 = .ok (.iinc 3 1, 3) := by decide +kernel
theorem dX0_symmetric_74 : decode cX0_symmetric 74 = .ok (.goto (-50), 3) := by decide +kernel
theorem dX0_symmetric_77 : decode cX0_symmetric 77 = .ok (.iinc 2 1, 3) := by decide +kernel
theorem dX0_symmetric_80 : decode cX0_symmetric 80 = .ok (.goto (-69), 3) := by decide +kernel
theorem dX0_symmetric_83 : decode cX0_symmetric 83 = .ok (.iconst 1, 1) := by decide +kernel
theorem dX0_symmetric_84 : decode cX0_symmetric 84 = .ok (.ireturn, 1) := by decide +kernel
end
section
set_option maxRecDepth 100000
theorem dX1_init_0 : decode cX1_init 0 = .ok (.aload_n 0, 1) := by decide +kernel
theorem dX1_init_1 : decode cX1_init 1 = .ok (.invokespecial 1, 3) := by decide +kernel
theorem dX1_init_4 : decode cX1_init 4 = .ok (.aload_n 0, 1) := by decide +kernel
theorem dX1_init_5 : decode cX1_init 5 = .ok (.sipush 180, 3) := by decide +kernel
theorem dX1_init_8 : decode cX1_init 8 = .ok (.newarray .int, 2) := by decide +kernel
theorem dX1_init_10 : decode cX1_init 10 = .ok (.putfield 7, 3) := by decide +kernel
theorem dX1_init_13 : decode cX1_init 13 = .ok (.aload_n 0, 1) := by decide +kernel
theorem dX1_init_14 : decode cX1_init 14 = .ok (.bipush 36, 2) := by decide +kernel
theorem dX1_init_16 : decode cX1_init 16 = .ok (.newarray .int, 2) := by decide +kernel
theorem dX1_init_18 : decode cX1_init 18 = .ok (.putfield 13, 3) := by decide +kernel
theorem dX1_init_21 : decode cX1_init 21 = .ok (.return_, 1) := by decide +kernel
theorem dX1_put_0 : decode cX1_put 0 = .ok (.aload_n 0, 1) := by decide +kernel
theorem dX1_put_1 : decode cX1_put 1 = .ok (.iload_n 1, 1) := by decide +kernel
theorem dX1_put_2 : decode cX1_put 2 = .ok (.invokevirtual 16, 3) := by decide +kernel
theorem dX1_put_5 : decode cX1_put 5 = .ok (.ifCond .eq 19, 3) := by decide +kernel
theorem dX1_put_8 : decode cX1_put 8 = .ok (.aload_n 0, 1) := by decide +kernel
theorem dX1_put_9 : decode cX1_put 9 = .ok (.iload_n 2, 1) := by decide +kernel
theorem dX1_put_10 : decode cX1_put 10 = .ok (.invokevirtual 20, 3) := by decide +kernel
theorem dX1_put_13 : decode cX1_put 13 = .ok (.ifCond .eq 11, 3) := by decide +kernel
theorem dX1_put_16 : decode cX1_put 16 = .ok (.aload_n 0, 1) := by decide +kernel
theorem dX1_put_17 : decode cX1_put 17 = .ok (.iload_n 3, 1) := by decide +kernel
theorem dX1_put_18 : decode cX1_put 18 = .ok (.invokevirtual 20, 3) := by decide +kernel
theorem dX1_put_21 : decode cX1_put 21 = .ok (.ifCond .ne 5, 3) := by decide +kernel
theorem dX1_put_24 : decode cX1_put 24 = .ok (.iconst 0, 1) := by decide +kernel
theorem dX1_put_25 : decode cX1_put 25 = .ok (.ireturn, 1) := by decide +kernel
theorem dX1_put_26 : decode cX1_put 26 = .ok (.aload_n 0, 1) := by decide +kernel
theorem dX1_put_27 : decode cX1_put 27 = .ok (.getfield 7, 3) := by decide +kernel
theorem dX1_put_30 : decode cX1_put 30 = .ok (.bipush 36, 2) := by decide +kernel
theorem dX1_put_32 : decode cX1_put 32 = .ok (.iload_n 1, 1) := by decide +kernel
theorem dX1_put_33 : decode cX1_put 33 = .ok (.imul, 1) := by decide +kernel
theorem dX1_put_34 : decode cX1_put 34 = .ok (.bipush 6, 2) := by decide +kernel
theorem dX1_put_36 : decode cX1_put 36 = .ok (.iload_n 2, 1) := by decide +kernel
theorem dX1_put_37 : decode cX1_put 37 = .ok (.imul, 1) := by decide +kernel
theorem dX1_put_38 : decode cX1_put 38 = .ok (.iadd, 1) := by decide +kernel
theorem dX1_put_39 : decode cX1_put 39 = .ok (.iload_n 3, 1) := by decide +kernel
theorem dX1_put_40 : decode cX1_put 40 = .ok (.iadd, 1) := by decide +kernel
theorem dX1_put_41 : decode cX1_put 41 = .ok (.iload 4, 2) := by decide +kernel
theorem dX1_put_43 : decode cX1_put 43 = .ok (.iastore, 1) := by decide +kernel
theorem dX1_put_44 : decode cX1_put 44 = .ok (.iconst 1, 1) := by decide +kernel
theorem dX1_put_45 : decode cX1_put 45 = .ok (.ireturn, 1) := by decide +kernel
theorem dX1_slot_0 : decode cX1_slot 0 = .ok (.iload_n 1, 1) := by decide +kernel
theorem dX1_slot_1 : decode cX1_slot 1 = .ok (.ifCond .lt 12, 3) := by decide +kernel
theorem dX1_slot_4 : decode cX1_slot 4 = .ok (.iload_n 1, 1) := by decide +kernel
theorem dX1_slot_5 : decode cX1_slot 5 = .ok (.iconst 4, 1) := by decide +kernel
theorem dX1_slot_6 : decode cX1_slot 6 = .ok (.if_icmp .gt 7, 3) := by decide +kernel
theorem dX1_slot_9 : decode cX1_slot 9 = .ok (.iconst 1, 1) := by decide +kernel
theorem dX1_slot_10 : decode cX1_slot 10 = .ok (.goto 4, 3) := by decide +kernel
theorem dX1_slot_13 : decode cX1_slot 13 = .ok (.iconst 0, 1) := by decide +kernel
theorem dX1_slot_14 : decode cX1_slot 14 = .ok (.ireturn, 1) := by decide +kernel
theorem dX1_line_0 : decode cX1_line 0 = .ok (.iload_n 1, 1) := by decide +kernel
theorem dX1_line_1 : decode cX1_line 1 = .ok (.ifCond .lt 12, 3) := by decide +kernel
theorem dX1_line_4 : decode cX1_line 4 = .ok (.iload_n 1, 1) := by decide +kernel
theorem dX1_line_5 : decode cX1_line 5 = .ok (.iconst 5, 1) := by decide +kernel
theorem dX1_line_6 : decode cX1_line 6 = .ok (.if_icmp .gt 7, 3) := by decide +kernel
theorem dX1_line_9 : decode cX1_line 9 = .ok (.iconst 1, 1) := by decide +kernel
theorem dX1_line_10 : decode cX1_line 10 = .ok (.goto 4, 3) := by decide +kernel
theorem dX1_line_13 : decode cX1_line 13 = .ok (.iconst 0, 1) := by decide +kernel
theorem dX1_line_14 : decode cX1_line 14 = .ok (.ireturn, 1) := by decide +kernel
theorem dX1_add_0 : decode cX1_add 0 = .ok (.aload_n 0, 1) := by decide +kernel
theorem dX1_add_1 : decode cX1_add 1 = .ok (.iload_n 1, 1) := by decide +kernel
theorem dX1_add_2 : decode cX1_add 2 = .ok (.invokevirtual 16, 3) := by decide +kernel
theorem dX1_add_5 : decode cX1_add 5 = .ok (.ifCond .eq 19, 3) := by decide +kernel
theorem dX1_add_8 : decode cX1_add 8 = .ok (.aload_n 0, 1) := by decide +kernel
theorem dX1_add_9 : decode cX1_add 9 = .ok (.iload_n 2, 1) := by decide +kernel
theorem dX1_add_10 : decode cX1_add 10 = .ok (.invokevirtual 16, 3) := by decide +kernel
theorem dX1_add_13 : decode cX1_add 13 = .ok (.ifCond .eq 11, 3) := by decide +kernel
theorem dX1_add_16 : decode cX1_add 16 = .ok (.aload_n 0, 1) := by decide +kernel
theorem dX1_add_17 : decode cX1_add 17 = .ok (.iload_n 3, 1) := by decide +kernel
theorem dX1_add_18 : decode cX1_add 18 = .ok (.invokevirtual 16, 3) := by decide +kernel
theorem dX1_add_21 : decode cX1_add 21 = .ok (.ifCond .ne 5, 3) := by decide +kernel
theorem dX1_add_24 : decode cX1_add 24 = .ok (.iconst (-1), 1) := by decide +kernel
theorem dX1_add_25 : decode cX1_add 25 = .ok (.ireturn, 1) := by decide +kernel
theorem dX1_add_26 : decode cX1_add 26 = .ok (.iconst 0, 1) := by decide +kernel
theorem dX1_add_27 : decode cX1_add 27 = .ok (.istore 4, 2) := by decide +kernel
theorem dX1_add_29 : decode cX1_add 29 = .ok (.iload 4, 2) := by decide +kernel
theorem dX1_add_31 : decode cX1_add 31 = .ok (.bipush 36, 2) := by decide +kernel
theorem dX1_add_33 : decode cX1_add 33 = .ok (.if_icmp .ge 41, 3) := by decide +kernel
theorem dX1_add_36 : decode cX1_add 36 = .ok (.aload_n 0, 1) := by decide +kernel
theorem dX1_add_37 : decode cX1_add 37 = .ok (.getfield 13, 3) := by decide +kernel
theorem dX1_add_40 : decode cX1_add 40 = .ok (.iload 4, 2) := by decide +kernel
theorem dX1_add_42 : decode cX1_add 42 = .ok (.aload_n 0, 1) := by decide +kernel
theorem dX1_add_43 : decode cX1_add 43 = .ok (.getfield 7, 3) := by decide +kernel
theorem dX1_add_46 : decode cX1_add 46 = .ok (.bipush 36, 2) := by decide +kernel
theorem dX1_add_48 : decode cX1_add 48 = .ok (.iload_n 2, 1) := by decide +kernel
theorem dX1_add_49 : decode cX1_add 49 = .ok (.imul, 1) := by decide +kernel
theorem dX1_add_50 : decode cX1_add 50 = .ok (.iload 4, 2) := by decide +kernel
theorem dX1_add_52 : decode cX1_add 52 = .ok (.iadd, 1) := by decide +kernel
theorem dX1_add_53 : decode cX1_add 53 = .ok (.iaload, 1) := by decide +kernel
theorem dX1_add_54 : decode cX1_add 54 = .ok (.aload_n 0, 1) := by decide +kernel
theorem dX1_add_55 : decode cX1_add 55 = .ok (.getfield 7, 3) := by decide +kernel
theorem dX1_add_58 : decode cX1_add 58 = .ok (.bipush 36, 2) := by decide +kernel
theorem dX1_add_60 : decode cX1_add 60 = .ok (.iload_n 3, 1) := by decide +kernel
theorem dX1_add_61 : decode cX1_add 61 = .ok (.imul, 1) := by decide +kernel
theorem dX1_add_62 : decode cX1_add 62 = .ok (.iload 4, 2) := by decide +kernel
theorem dX1_add_64 : decode cX1_add 64 = .ok (.iadd, 1) := by decide +kernel
theorem dX1_add_65 : decode cX1_add 65 = .ok (.iaload, 1) := by decide +kernel
theorem dX1_add_66 : decode cX1_add 66 = .ok (.iadd, 1) := by decide +kernel
theorem dX1_add_67 : decode cX1_add 67 = .ok (.iastore, 1) := by decide +kernel
theorem dX1_add_68 : decode cX1_add 68 = .ok (.iinc 4 1, 3) := by decide +kernel
theorem dX1_add_71 : decode cX1_add 71 = .ok (.goto (-42), 3) := by decide +kernel
theorem dX1_add_74 : decode cX1_add 74 = .ok (.aload_n 0, 1) := by decide +kernel
theorem dX1_add_75 : decode cX1_add 75 = .ok (.iload_n 1, 1) := by decide +kernel
theorem dX1_add_76 : decode cX1_add 76 = .ok (.invokevirtual 27, 3) := by decide +kernel
theorem dX1_add_79 : decode cX1_add 79 = .ok (.ireturn, 1) := by decide +kernel
theorem dX1_keep_0 : decode cX1_keep 0 = .ok (.iconst 0, 1) := by decide +kernel
theorem dX1_keep_1 : decode cX1_keep 1 = .ok (.istore_n 2, 1) := by decide +kernel
theorem dX1_keep_2 : decode cX1_keep 2 = .ok (.iload_n 2, 1) := by decide +kernel
theorem dX1_keep_3 : decode cX1_keep 3 = .ok (.bipush 36, 2) := by decide +kernel
theorem dX1_keep_5 : decode cX1_keep 5 = .ok (.if_icmp .ge 26, 3) := by decide +kernel
theorem dX1_keep_8 : decode cX1_keep 8 = .ok (.aload_n 0, 1) := by decide +kernel
theorem dX1_keep_9 : decode cX1_keep 9 = .ok (.getfield 7, 3) := by decide +kernel
theorem dX1_keep_12 : decode cX1_keep 12 = .ok (.bipush 36, 2) := by decide +kernel
theorem dX1_keep_14 : decode cX1_keep 14 = .ok (.iload_n 1, 1) := by decide +kernel
theorem dX1_keep_15 : decode cX1_keep 15 = .ok (.imul, 1) := by decide +kernel
theorem dX1_keep_16 : decode cX1_keep 16 = .ok (.iload_n 2, 1) := by decide +kernel
theorem dX1_keep_17 : decode cX1_keep 17 = .ok (.iadd, 1) := by decide +kernel
theorem dX1_keep_18 : decode cX1_keep 18 = .ok (.aload_n 0, 1) := by decide +kernel
theorem dX1_keep_19 : decode cX1_keep 19 = .ok (.getfield 13, 3) := by decide +kernel
theorem dX1_keep_22 : decode cX1_keep 22 = .ok (.iload_n 2, 1) := by decide +kernel
theorem dX1_keep_23 : decode cX1_keep 23 = .ok (.iaload, 1) := by decide +kernel
theorem dX1_keep_24 : decode cX1_keep 24 = .ok (.iastore, 1) := by decide +kernel
theorem dX1_keep_25 : decode cX1_keep 25 = .ok (.iinc 2 1, 3) := by decide +kernel
theorem dX1_keep_28 : decode cX1_keep 28 = .ok (.goto (-26), 3) := by decide +kernel
theorem dX1_keep_31 : decode cX1_keep 31 = .ok (.aload_n 0, 1) := by decide +kernel
theorem dX1_keep_32 : decode cX1_keep 32 = .ok (.iload_n 1, 1) := by decide +kernel
theorem dX1_keep_33 : decode cX1_keep 33 = .ok (.invokevirtual 23, 3) := by decide +kernel
theorem dX1_keep_36 : decode cX1_keep 36 = .ok (.ireturn, 1) := by decide +kernel
theorem dX1_count_0 : decode cX1_count 0 = .ok (.iconst 0, 1) := by decide +kernel
theorem dX1_count_1 : decode cX1_count 1 = .ok (.istore_n 2, 1) := by decide +kernel
theorem dX1_count_2 : decode cX1_count 2 = .ok (.iconst 0, 1) := by decide +kernel
theorem dX1_count_3 : decode cX1_count 3 = .ok (.istore_n 3, 1) := by decide +kernel
theorem dX1_count_4 : decode cX1_count 4 = .ok (.iload_n 3, 1) := by decide +kernel
theorem dX1_count_5 : decode cX1_count 5 = .ok (.bipush 36, 2) := by decide +kernel
theorem dX1_count_7 : decode cX1_count 7 = .ok (.if_icmp .ge 39, 3) := by decide +kernel
theorem dX1_count_10 : decode cX1_count 10 = .ok (.aload_n 0, 1) := by decide +kernel
theorem dX1_count_11 : decode cX1_count 11 = .ok (.iload_n 1, 1) := by decide +kernel
theorem dX1_count_12 : decode cX1_count 12 = .ok (.invokevirtual 16, 3) := by decide +kernel
theorem dX1_count_15 : decode cX1_count 15 = .ok (.ifCond .eq 31, 3) := by decide +kernel
theorem dX1_count_18 : decode cX1_count 18 = .ok (.aload_n 0, 1) := by decide +kernel
theorem dX1_count_19 : decode cX1_count 19 = .ok (.getfield 7, 3) := by decide +kernel
theorem dX1_count_22 : decode cX1_count 22 = .ok (.bipush 36, 2) := by decide +kernel
theorem dX1_count_24 : decode cX1_count 24 = .ok (.iload_n 1, 1) := by decide +kernel
theorem dX1_count_25 : decode cX1_count 25 = .ok (.imul, 1) := by decide +kernel
theorem dX1_count_26 : decode cX1_count 26 = .ok (.iload_n 3, 1) := by decide +kernel
theorem dX1_count_27 : decode cX1_count 27 = .ok (.iadd, 1) := by decide +kernel
theorem dX1_count_28 : decode cX1_count 28 = .ok (.iaload, 1) := by decide +kernel
theorem dX1_count_29 : decode cX1_count 29 = .ok (.ifCond .eq 9, 3) := by decide +kernel
theorem dX1_count_32 : decode cX1_count 32 = .ok (.iload_n 2, 1) := by decide +kernel
theorem dX1_count_33 : decode cX1_count 33 = .ok (.iconst 1, 1) := by decide +kernel
theorem dX1_count_34 : decode cX1_count 34 = .ok (.iadd, 1) := by decide +kernel
theorem dX1_count_35 : decode cX1_count 35 = .ok (.goto 4, 3) := by decide +kernel
theorem dX1_count_38 : decode cX1_count 38 = .ok (.iload_n 2, 1) := by decide +kernel
theorem dX1_count_39 : decode cX1_count 39 = .ok (.istore_n 2, 1) := by decide +kernel
theorem dX1_count_40 : decode cX1_count 40 = .ok (.iinc 3 1, 3) := by decide +kernel
theorem dX1_count_43 : decode cX1_count 43 = .ok (.goto (-39), 3) := by decide +kernel
theorem dX1_count_46 : decode cX1_count 46 = .ok (.aload_n 0, 1) := by decide +kernel
theorem dX1_count_47 : decode cX1_count 47 = .ok (.iload_n 1, 1) := by decide +kernel
theorem dX1_count_48 : decode cX1_count 48 = .ok (.invokevirtual 16, 3) := by decide +kernel
theorem dX1_count_51 : decode cX1_count 51 = .ok (.ifCond .eq 7, 3) := by decide +kernel
theorem dX1_count_54 : decode cX1_count 54 = .ok (.iload_n 2, 1) := by decide +kernel
theorem dX1_count_55 : decode cX1_count 55 = .ok (.goto 4, 3) := by decide +kernel
theorem dX1_count_58 : decode cX1_count 58 = .ok (.iconst (-1), 1) := by decide +kernel
theorem dX1_count_59 : decode cX1_count 59 = .ok (.ireturn, 1) := by decide +kernel
theorem dX1_entrywise_0 : decode cX1_entrywise 0 = .ok (.aload_n 0, 1) := by decide +kernel
theorem dX1_entrywise_1 : decode cX1_entrywise 1 = .ok (.iload_n 1, 1) := by decide +kernel
theorem dX1_entrywise_2 : decode cX1_entrywise 2 = .ok (.invokevirtual 16, 3) := by decide +kernel
theorem dX1_entrywise_5 : decode cX1_entrywise 5 = .ok (.ifCond .eq 19, 3) := by decide +kernel
theorem dX1_entrywise_8 : decode cX1_entrywise 8 = .ok (.aload_n 0, 1) := by decide +kernel
theorem dX1_entrywise_9 : decode cX1_entrywise 9 = .ok (.iload_n 2, 1) := by decide +kernel
theorem dX1_entrywise_10 : decode cX1_entrywise 10 = .ok (.invokevirtual 16, 3) := by decide +kernel
theorem dX1_entrywise_13 : decode cX1_entrywise 13 = .ok (.ifCond .eq 11, 3) := by decide +kernel
theorem dX1_entrywise_16 : decode cX1_entrywise 16 = .ok (.aload_n 0, 1) := by decide +kernel
theorem dX1_entrywise_17 : decode cX1_entrywise 17 = .ok (.iload_n 3, 1) := by decide +kernel
theorem dX1_entrywise_18 : decode cX1_entrywise 18 = .ok (.invokevirtual 16, 3) := by decide +kernel
theorem dX1_entrywise_21 : decode cX1_entrywise 21 = .ok (.ifCond .ne 5, 3) := by decide +kernel
theorem dX1_entrywise_24 : decode cX1_entrywise 24 = .ok (.iconst (-1), 1) := by decide +kernel
theorem dX1_entrywise_25 : decode cX1_entrywise 25 = .ok (.ireturn, 1) := by decide +kernel
theorem dX1_entrywise_26 : decode cX1_entrywise 26 = .ok (.iconst 0, 1) := by decide +kernel
theorem dX1_entrywise_27 : decode cX1_entrywise 27 = .ok (.istore 4, 2) := by decide +kernel
theorem dX1_entrywise_29 : decode cX1_entrywise 29 = .ok (.iload 4, 2) := by decide +kernel
theorem dX1_entrywise_31 : decode cX1_entrywise 31 = .ok (.bipush 36, 2) := by decide +kernel
theorem dX1_entrywise_33 : decode cX1_entrywise 33 = .ok (.if_icmp .ge 41, 3) := by decide +kernel
theorem dX1_entrywise_36 : decode cX1_entrywise 36 = .ok (.aload_n 0, 1) := by decide +kernel
theorem dX1_entrywise_37 : decode cX1_entrywise 37 = .ok (.getfield 13, 3) := by decide +kernel
theorem dX1_entrywise_40 : decode cX1_entrywise 40 = .ok (.iload 4, 2) := by decide +kernel
theorem dX1_entrywise_42 : decode cX1_entrywise 42 = .ok (.aload_n 0, 1) := by decide +kernel
theorem dX1_entrywise_43 : decode cX1_entrywise 43 = .ok (.getfield 7, 3) := by decide +kernel
theorem dX1_entrywise_46 : decode cX1_entrywise 46 = .ok (.bipush 36, 2) := by decide +kernel
theorem dX1_entrywise_48 : decode cX1_entrywise 48 = .ok (.iload_n 2, 1) := by decide +kernel
theorem dX1_entrywise_49 : decode cX1_entrywise 49 = .ok (.imul, 1) := by decide +kernel
theorem dX1_entrywise_50 : decode cX1_entrywise 50 = .ok (.iload 4, 2) := by decide +kernel
theorem dX1_entrywise_52 : decode cX1_entrywise 52 = .ok (.iadd, 1) := by decide +kernel
theorem dX1_entrywise_53 : decode cX1_entrywise 53 = .ok (.iaload, 1) := by decide +kernel
theorem dX1_entrywise_54 : decode cX1_entrywise 54 = .ok (.aload_n 0, 1) := by decide +kernel
theorem dX1_entrywise_55 : decode cX1_entrywise 55 = .ok (.getfield 7, 3) := by decide +kernel
theorem dX1_entrywise_58 : decode cX1_entrywise 58 = .ok (.bipush 36, 2) := by decide +kernel
theorem dX1_entrywise_60 : decode cX1_entrywise 60 = .ok (.iload_n 3, 1) := by decide +kernel
theorem dX1_entrywise_61 : decode cX1_entrywise 61 = .ok (.imul, 1) := by decide +kernel
theorem dX1_entrywise_62 : decode cX1_entrywise 62 = .ok (.iload 4, 2) := by decide +kernel
theorem dX1_entrywise_64 : decode cX1_entrywise 64 = .ok (.iadd, 1) := by decide +kernel
theorem dX1_entrywise_65 : decode cX1_entrywise 65 = .ok (.iaload, 1) := by decide +kernel
theorem dX1_entrywise_66 : decode cX1_entrywise 66 = .ok (.imul, 1) := by decide +kernel
theorem dX1_entrywise_67 : decode cX1_entrywise 67 = .ok (.iastore, 1) := by decide +kernel
theorem dX1_entrywise_68 : decode cX1_entrywise 68 = .ok (.iinc 4 1, 3) := by decide +kernel
theorem dX1_entrywise_71 : decode cX1_entrywise 71 = .ok (.goto (-42), 3) := by decide +kernel
theorem dX1_entrywise_74 : decode cX1_entrywise 74 = .ok (.aload_n 0, 1) := by decide +kernel
theorem dX1_entrywise_75 : decode cX1_entrywise 75 = .ok (.iload_n 1, 1) := by decide +kernel
theorem dX1_entrywise_76 : decode cX1_entrywise 76 = .ok (.invokevirtual 27, 3) := by decide +kernel
theorem dX1_entrywise_79 : decode cX1_entrywise 79 = .ok (.ireturn, 1) := by decide +kernel
theorem dX1_product_0 : decode cX1_product 0 = .ok (.aload_n 0, 1) := by decide +kernel
theorem dX1_product_1 : decode cX1_product 1 = .ok (.iload_n 1, 1) := by decide +kernel
theorem dX1_product_2 : decode cX1_product 2 = .ok (.invokevirtual 16, 3) := by decide +kernel
theorem dX1_product_5 : decode cX1_product 5 = .ok (.ifCond .eq 19, 3) := by decide +kernel
theorem dX1_product_8 : decode cX1_product 8 = .ok (.aload_n 0, 1) := by decide +kernel
theorem dX1_product_9 : decode cX1_product 9 = .ok (.iload_n 2, 1) := by decide +kernel
theorem dX1_product_10 : decode cX1_product 10 = .ok (.invokevirtual 16, 3) := by decide +kernel
theorem dX1_product_13 : decode cX1_product 13 = .ok (.ifCond .eq 11, 3) := by decide +kernel
theorem dX1_product_16 : decode cX1_product 16 = .ok (.aload_n 0, 1) := by decide +kernel
theorem dX1_product_17 : decode cX1_product 17 = .ok (.iload_n 3, 1) := by decide +kernel
theorem dX1_product_18 : decode cX1_product 18 = .ok (.invokevirtual 16, 3) := by decide +kernel
theorem dX1_product_21 : decode cX1_product 21 = .ok (.ifCond .ne 5, 3) := by decide +kernel
theorem dX1_product_24 : decode cX1_product 24 = .ok (.iconst (-1), 1) := by decide +kernel
theorem dX1_product_25 : decode cX1_product 25 = .ok (.ireturn, 1) := by decide +kernel
theorem dX1_product_26 : decode cX1_product 26 = .ok (.iconst 0, 1) := by decide +kernel
theorem dX1_product_27 : decode cX1_product 27 = .ok (.istore 4, 2) := by decide +kernel
theorem dX1_product_29 : decode cX1_product 29 = .ok (.iload 4, 2) := by decide +kernel
theorem dX1_product_31 : decode cX1_product 31 = .ok (.bipush 36, 2) := by decide +kernel
theorem dX1_product_33 : decode cX1_product 33 = .ok (.if_icmp .ge 32, 3) := by decide +kernel
theorem dX1_product_36 : decode cX1_product 36 = .ok (.aload_n 0, 1) := by decide +kernel
theorem dX1_product_37 : decode cX1_product 37 = .ok (.getfield 13, 3) := by decide +kernel
theorem dX1_product_40 : decode cX1_product 40 = .ok (.iload 4, 2) := by decide +kernel
theorem dX1_product_42 : decode cX1_product 42 = .ok (.aload_n 0, 1) := by decide +kernel
theorem dX1_product_43 : decode cX1_product 43 = .ok (.iload_n 2, 1) := by decide +kernel
theorem dX1_product_44 : decode cX1_product 44 = .ok (.iload_n 3, 1) := by decide +kernel
theorem dX1_product_45 : decode cX1_product 45 = .ok (.iload 4, 2) := by decide +kernel
theorem dX1_product_47 : decode cX1_product 47 = .ok (.bipush 6, 2) := by decide +kernel
theorem dX1_product_49 : decode cX1_product 49 = .ok (.idiv, 1) := by decide +kernel
theorem dX1_product_50 : decode cX1_product 50 = .ok (.iload 4, 2) := by decide +kernel
theorem dX1_product_52 : decode cX1_product 52 = .ok (.bipush 6, 2) := by decide +kernel
theorem dX1_product_54 : decode cX1_product 54 = .ok (.irem, 1) := by decide +kernel
theorem dX1_product_55 : decode cX1_product 55 = .ok (.invokevirtual 34, 3) := by decide +kernel
theorem dX1_product_58 : decode cX1_product 58 = .ok (.iastore, 1) := by decide +kernel
theorem dX1_product_59 : decode cX1_product 59 = .ok (.iinc 4 1, 3) := by decide +kernel
theorem dX1_product_62 : decode cX1_product 62 = .ok (.goto (-33), 3) := by decide +kernel
theorem dX1_product_65 : decode cX1_product 65 = .ok (.aload_n 0, 1) := by decide +kernel
theorem dX1_product_66 : decode cX1_product 66 = .ok (.iload_n 1, 1) := by decide +kernel
theorem dX1_product_67 : decode cX1_product 67 = .ok (.invokevirtual 27, 3) := by decide +kernel
theorem dX1_product_70 : decode cX1_product 70 = .ok (.ireturn, 1) := by decide +kernel
theorem dX1_entry_0 : decode cX1_entry 0 = .ok (.iconst 0, 1) := by decide +kernel
theorem dX1_entry_1 : decode cX1_entry 1 = .ok (.istore 5, 2) := by decide +kernel
theorem dX1_entry_3 : decode cX1_entry 3 = .ok (.iconst 0, 1) := by decide +kernel
theorem dX1_entry_4 : decode cX1_entry 4 = .ok (.istore 6, 2) := by decide +kernel
theorem dX1_entry_6 : decode cX1_entry 6 = .ok (.iload 6, 2) := by decide +kernel
theorem dX1_entry_8 : decode cX1_entry 8 = .ok (.bipush 6, 2) := by decide +kernel
theorem dX1_entry_10 : decode cX1_entry 10 = .ok (.if_icmp .ge 32, 3) := by decide +kernel
theorem dX1_entry_13 : decode cX1_entry 13 = .ok (.iload 5, 2) := by decide +kernel
theorem dX1_entry_15 : decode cX1_entry 15 = .ok (.aload_n 0, 1) := by decide +kernel
theorem dX1_entry_16 : decode cX1_entry 16 = .ok (.iload_n 1, 1) := by decide +kernel
theorem dX1_entry_17 : decode cX1_entry 17 = .ok (.iload_n 3, 1) := by decide +kernel
theorem dX1_entry_18 : decode cX1_entry 18 = .ok (.iload 6, 2) := by decide +kernel
theorem dX1_entry_20 : decode cX1_entry 20 = .ok (.invokevirtual 30, 3) := by decide +kernel
theorem dX1_entry_23 : decode cX1_entry 23 = .ok (.aload_n 0, 1) := by decide +kernel
theorem dX1_entry_24 : decode cX1_entry 24 = .ok (.iload_n 2, 1) := by decide +kernel
theorem dX1_entry_25 : decode cX1_entry 25 = .ok (.iload 6, 2) := by decide +kernel
theorem dX1_entry_27 : decode cX1_entry 27 = .ok (.iload 4, 2) := by decide +kernel
theorem dX1_entry_29 : decode cX1_entry 29 = .ok (.invokevirtual 30, 3) := by decide +kernel
theorem dX1_entry_32 : decode cX1_entry 32 = .ok (.imul, 1) := by decide +kernel
theorem dX1_entry_33 : decode cX1_entry 33 = .ok (.iadd, 1) := by decide +kernel
theorem dX1_entry_34 : decode cX1_entry 34 = .ok (.istore 5, 2) := by decide +kernel
theorem dX1_entry_36 : decode cX1_entry 36 = .ok (.iinc 6 1, 3) := by decide +kernel
theorem dX1_entry_39 : decode cX1_entry 39 = .ok (.goto (-33), 3) := by decide +kernel
theorem dX1_entry_42 : decode cX1_entry 42 = .ok (.iload 5, 2) := by decide +kernel
theorem dX1_entry_44 : decode cX1_entry 44 = .ok (.ireturn, 1) := by decide +kernel
theorem dX1_cell_0 : decode cX1_cell 0 = .ok (.aload_n 0, 1) := by decide +kernel
theorem dX1_cell_1 : decode cX1_cell 1 = .ok (.getfield 7, 3) := by decide +kernel
theorem dX1_cell_4 : decode cX1_cell 4 = .ok (.bipush 36, 2) := by decide +kernel
theorem dX1_cell_6 : decode cX1_cell 6 = .ok (.iload_n 1, 1) := by decide +kernel
theorem dX1_cell_7 : decode cX1_cell 7 = .ok (.imul, 1) := by decide +kernel
theorem dX1_cell_8 : decode cX1_cell 8 = .ok (.bipush 6, 2) := by decide +kernel
theorem dX1_cell_10 : decode cX1_cell 10 = .ok (.iload_n 2, 1) := by decide +kernel
theorem dX1_cell_11 : decode cX1_cell 11 = .ok (.imul, 1) := by decide +kernel
theorem dX1_cell_12 : decode cX1_cell 12 = .ok (.iadd, 1) := by decide +kernel
theorem dX1_cell_13 : decode cX1_cell 13 = .ok (.iload_n 3, 1) := by decide +kernel
theorem dX1_cell_14 : decode cX1_cell 14 = .ok (.iadd, 1) := by decide +kernel
theorem dX1_cell_15 : decode cX1_cell 15 = .ok (.iaload, 1) := by decide +kernel
theorem dX1_cell_16 : decode cX1_cell 16 = .ok (.ireturn, 1) := by decide +kernel
theorem dX1_masked_0 : decode cX1_masked 0 = .ok (.iload_n 2, 1) := by decide +kernel
theorem dX1_masked_1 : decode cX1_masked 1 = .ok (.bipush 7, 2) := by decide +kernel
theorem dX1_masked_3 : decode cX1_masked 3 = .ok (.iand, 1) := by decide +kernel
theorem dX1_masked_4 : decode cX1_masked 4 = .ok (.istore_n 3, 1) := by decide +kernel
theorem dX1_masked_5 : decode cX1_masked 5 = .ok (.iload_n 2, 1) := by decide +kernel
theorem dX1_masked_6 : decode cX1_masked 6 = .ok (.iconst 3, 1) := by decide +kernel
theorem dX1_masked_7 : decode cX1_masked 7 = .ok (.ishr, 1) := by decide +kernel
theorem dX1_masked_8 : decode cX1_masked 8 = .ok (.bipush 7, 2) := by decide +kernel
theorem dX1_masked_10 : decode cX1_masked 10 = .ok (.iand, 1) := by decide +kernel
theorem dX1_masked_11 : decode cX1_masked 11 = .ok (.istore 4, 2) := by decide +kernel
theorem dX1_masked_13 : decode cX1_masked 13 = .ok (.iload_n 2, 1) := by decide +kernel
theorem dX1_masked_14 : decode cX1_masked 14 = .ok (.bipush 6, 2) := by decide +kernel
theorem dX1_masked_16 : decode cX1_masked 16 = .ok (.ishr, 1) := by decide +kernel
theorem dX1_masked_17 : decode cX1_masked 17 = .ok (.istore 5, 2) := by decide +kernel
theorem dX1_masked_19 : decode cX1_masked 19 = .ok (.aload_n 0, 1) := by decide +kernel
theorem dX1_masked_20 : decode cX1_masked 20 = .ok (.iload_n 1, 1) := by decide +kernel
theorem dX1_masked_21 : decode cX1_masked 21 = .ok (.invokevirtual 16, 3) := by decide +kernel
theorem dX1_masked_24 : decode cX1_masked 24 = .ok (.ifCond .eq 29, 3) := by decide +kernel
theorem dX1_masked_27 : decode cX1_masked 27 = .ok (.aload_n 0, 1) := by decide +kernel
theorem dX1_masked_28 : decode cX1_masked 28 = .ok (.iload_n 3, 1) := by decide +kernel
theorem dX1_masked_29 : decode cX1_masked 29 = .ok (.invokevirtual 16, 3) := by decide +kernel
theorem dX1_masked_32 : decode cX1_masked 32 = .ok (.ifCond .eq 21, 3) := by decide +kernel
theorem dX1_masked_35 : decode cX1_masked 35 = .ok (.aload_n 0, 1) := by decide +kernel
theorem dX1_masked_36 : decode cX1_masked 36 = .ok (.iload 4, 2) := by decide +kernel
theorem dX1_masked_38 : decode cX1_masked 38 = .ok (.invokevirtual 16, 3) := by decide +kernel
theorem dX1_masked_41 : decode cX1_masked 41 = .ok (.ifCond .eq 12, 3) := by decide +kernel
theorem dX1_masked_44 : decode cX1_masked 44 = .ok (.aload_n 0, 1) := by decide +kernel
theorem dX1_masked_45 : decode cX1_masked 45 = .ok (.iload 5, 2) := by decide +kernel
theorem dX1_masked_47 : decode cX1_masked 47 = .ok (.invokevirtual 16, 3) := by decide +kernel
theorem dX1_masked_50 : decode cX1_masked 50 = .ok (.ifCond .ne 5, 3) := by decide +kernel
theorem dX1_masked_53 : decode cX1_masked 53 = .ok (.iconst (-1), 1) := by decide +kernel
theorem dX1_masked_54 : decode cX1_masked 54 = .ok (.ireturn, 1) := by decide +kernel
theorem dX1_masked_55 : decode cX1_masked 55 = .ok (.iconst 0, 1) := by decide +kernel
theorem dX1_masked_56 : decode cX1_masked 56 = .ok (.istore 6, 2) := by decide +kernel
theorem dX1_masked_58 : decode cX1_masked 58 = .ok (.iload 6, 2) := by decide +kernel
theorem dX1_masked_60 : decode cX1_masked 60 = .ok (.bipush 36, 2) := by decide +kernel
theorem dX1_masked_62 : decode cX1_masked 62 = .ok (.if_icmp .ge 53, 3) := by decide +kernel
theorem dX1_masked_65 : decode cX1_masked 65 = .ok (.aload_n 0, 1) := by decide +kernel
theorem dX1_masked_66 : decode cX1_masked 66 = .ok (.getfield 13, 3) := by decide +kernel
theorem dX1_masked_69 : decode cX1_masked 69 = .ok (.iload 6, 2) := by decide +kernel
theorem dX1_masked_71 : decode cX1_masked 71 = .ok (.aload_n 0, 1) := by decide +kernel
theorem dX1_masked_72 : decode cX1_masked 72 = .ok (.getfield 7, 3) := by decide +kernel
theorem dX1_masked_75 : decode cX1_masked 75 = .ok (.bipush 36, 2) := by decide +kernel
theorem dX1_masked_77 : decode cX1_masked 77 = .ok (.iload 5, 2) := by decide +kernel
theorem dX1_masked_79 : decode cX1_masked 79 = .ok (.imul, 1) := by decide +kernel
theorem dX1_masked_80 : decode cX1_masked 80 = .ok (.iload 6, 2) := by decide +kernel
theorem dX1_masked_82 : decode cX1_masked 82 = .ok (.iadd, 1) := by decide +kernel
theorem dX1_masked_83 : decode cX1_masked 83 = .ok (.iaload, 1) := by decide +kernel
theorem dX1_masked_84 : decode cX1_masked 84 = .ok (.ifCond .eq 23, 3) := by decide +kernel
theorem dX1_masked_87 : decode cX1_masked 87 = .ok (.aload_n 0, 1) := by decide +kernel
theorem dX1_masked_88 : decode cX1_masked 88 = .ok (.iload_n 3, 1) := by decide +kernel
theorem dX1_masked_89 : decode cX1_masked 89 = .ok (.iload 4, 2) := by decide +kernel
theorem dX1_masked_91 : decode cX1_masked 91 = .ok (.iload 6, 2) := by decide +kernel
theorem dX1_masked_93 : decode cX1_masked 93 = .ok (.bipush 6, 2) := by decide +kernel
theorem dX1_masked_95 : decode cX1_masked 95 = .ok (.idiv, 1) := by decide +kernel
theorem dX1_masked_96 : decode cX1_masked 96 = .ok (.iload 6, 2) := by decide +kernel
theorem dX1_masked_98 : decode cX1_masked 98 = .ok (.bipush 6, 2) := by decide +kernel
theorem dX1_masked_100 : decode cX1_masked 100 = .ok (.irem, 1) := by decide +kernel
theorem dX1_masked_101 : decode cX1_masked 101 = .ok (.invokevirtual 34, 3) := by decide +kernel
theorem dX1_masked_104 : decode cX1_masked 104 = .ok (.goto 4, 3) := by decide +kernel
theorem dX1_masked_107 : decode cX1_masked 107 = .ok (.iconst 0, 1) := by decide +kernel
theorem dX1_masked_108 : decode cX1_masked 108 = .ok (.iastore, 1) := by decide +kernel
theorem dX1_masked_109 : decode cX1_masked 109 = .ok (.iinc 6 1, 3) := by decide +kernel
theorem dX1_masked_112 : decode cX1_masked 112 = .ok (.goto (-54), 3) := by decide +kernel
theorem dX1_masked_115 : decode cX1_masked 115 = .ok (.aload_n 0, 1) := by decide +kernel
theorem dX1_masked_116 : decode cX1_masked 116 = .ok (.iload_n 1, 1) := by decide +kernel
theorem dX1_masked_117 : decode cX1_masked 117 = .ok (.invokevirtual 27, 3) := by decide +kernel
theorem dX1_masked_120 : decode cX1_masked 120 = .ok (.ireturn, 1) := by decide +kernel
theorem dX1_transpose_0 : decode cX1_transpose 0 = .ok (.aload_n 0, 1) := by decide +kernel
theorem dX1_transpose_1 : decode cX1_transpose 1 = .ok (.iload_n 1, 1) := by decide +kernel
theorem dX1_transpose_2 : decode cX1_transpose 2 = .ok (.invokevirtual 16, 3) := by decide +kernel
theorem dX1_transpose_5 : decode cX1_transpose 5 = .ok (.ifCond .eq 11, 3) := by decide +kernel
theorem dX1_transpose_8 : decode cX1_transpose 8 = .ok (.aload_n 0, 1) := by decide +kernel
theorem dX1_transpose_9 : decode cX1_transpose 9 = .ok (.iload_n 2, 1) := by decide +kernel
theorem dX1_transpose_10 : decode cX1_transpose 10 = .ok (.invokevirtual 16, 3) := by decide +kernel
theorem dX1_transpose_13 : decode cX1_transpose 13 = .ok (.ifCond .ne 5, 3) := by decide +kernel
theorem dX1_transpose_16 : decode cX1_transpose 16 = .ok (.iconst (-1), 1) := by decide +kernel
theorem dX1_transpose_17 : decode cX1_transpose 17 = .ok (.ireturn, 1) := by decide +kernel
theorem dX1_transpose_18 : decode cX1_transpose 18 = .ok (.iconst 0, 1) := by decide +kernel
theorem dX1_transpose_19 : decode cX1_transpose 19 = .ok (.istore_n 3, 1) := by decide +kernel
theorem dX1_transpose_20 : decode cX1_transpose 20 = .ok (.iload_n 3, 1) := by decide +kernel
theorem dX1_transpose_21 : decode cX1_transpose 21 = .ok (.bipush 36, 2) := by decide +kernel
theorem dX1_transpose_23 : decode cX1_transpose 23 = .ok (.if_icmp .ge 28, 3) := by decide +kernel
theorem dX1_transpose_26 : decode cX1_transpose 26 = .ok (.aload_n 0, 1) := by decide +kernel
theorem dX1_transpose_27 : decode cX1_transpose 27 = .ok (.getfield 13, 3) := by decide +kernel
theorem dX1_transpose_30 : decode cX1_transpose 30 = .ok (.iload_n 3, 1) := by decide +kernel
theorem dX1_transpose_31 : decode cX1_transpose 31 = .ok (.aload_n 0, 1) := by decide +kernel
theorem dX1_transpose_32 : decode cX1_transpose 32 = .ok (.iload_n 2, 1) := by decide +kernel
theorem dX1_transpose_33 : decode cX1_transpose 33 = .ok (.iload_n 3, 1) := by decide +kernel
theorem dX1_transpose_34 : decode cX1_transpose 34 = .ok (.bipush 6, 2) := by decide +kernel
theorem dX1_transpose_36 : decode cX1_transpose 36 = .ok (.irem, 1) := by decide +kernel
theorem dX1_transpose_37 : decode cX1_transpose 37 = .ok (.iload_n 3, 1) := by decide +kernel
theorem dX1_transpose_38 : decode cX1_transpose 38 = .ok (.bipush 6, 2) := by decide +kernel
theorem dX1_transpose_40 : decode cX1_transpose 40 = .ok (.idiv, 1) := by decide +kernel
theorem dX1_transpose_41 : decode cX1_transpose 41 = .ok (.invokevirtual 30, 3) := by decide +kernel
theorem dX1_transpose_44 : decode cX1_transpose 44 = .ok (.iastore, 1) := by decide +kernel
theorem dX1_transpose_45 : decode cX1_transpose 45 = .ok (.iinc 3 1, 3) := by decide +kernel
theorem dX1_transpose_48 : decode cX1_transpose 48 = .ok (.goto (-28), 3) := by decide +kernel
theorem dX1_transpose_51 : decode cX1_transpose 51 = .ok (.aload_n 0, 1) := by decide +kernel
theorem dX1_transpose_52 : decode cX1_transpose 52 = .ok (.iload_n 1, 1) := by decide +kernel
theorem dX1_transpose_53 : decode cX1_transpose 53 = .ok (.invokevirtual 27, 3) := by decide +kernel
theorem dX1_transpose_56 : decode cX1_transpose 56 = .ok (.ireturn, 1) := by decide +kernel
theorem dX1_scale_0 : decode cX1_scale 0 = .ok (.aload_n 0, 1) := by decide +kernel
theorem dX1_scale_1 : decode cX1_scale 1 = .ok (.iload_n 1, 1) := by decide +kernel
theorem dX1_scale_2 : decode cX1_scale 2 = .ok (.invokevirtual 16, 3) := by decide +kernel
theorem dX1_scale_5 : decode cX1_scale 5 = .ok (.ifCond .eq 11, 3) := by decide +kernel
theorem dX1_scale_8 : decode cX1_scale 8 = .ok (.aload_n 0, 1) := by decide +kernel
theorem dX1_scale_9 : decode cX1_scale 9 = .ok (.iload_n 2, 1) := by decide +kernel
theorem dX1_scale_10 : decode cX1_scale 10 = .ok (.invokevirtual 16, 3) := by decide +kernel
theorem dX1_scale_13 : decode cX1_scale 13 = .ok (.ifCond .ne 5, 3) := by decide +kernel
theorem dX1_scale_16 : decode cX1_scale 16 = .ok (.iconst (-1), 1) := by decide +kernel
theorem dX1_scale_17 : decode cX1_scale 17 = .ok (.ireturn, 1) := by decide +kernel
theorem dX1_scale_18 : decode cX1_scale 18 = .ok (.iconst 0, 1) := by decide +kernel
theorem dX1_scale_19 : decode cX1_scale 19 = .ok (.istore 4, 2) := by decide +kernel
theorem dX1_scale_21 : decode cX1_scale 21 = .ok (.iload 4, 2) := by decide +kernel
theorem dX1_scale_23 : decode cX1_scale 23 = .ok (.bipush 36, 2) := by decide +kernel
theorem dX1_scale_25 : decode cX1_scale 25 = .ok (.if_icmp .ge 30, 3) := by decide +kernel
theorem dX1_scale_28 : decode cX1_scale 28 = .ok (.aload_n 0, 1) := by decide +kernel
theorem dX1_scale_29 : decode cX1_scale 29 = .ok (.getfield 13, 3) := by decide +kernel
theorem dX1_scale_32 : decode cX1_scale 32 = .ok (.iload 4, 2) := by decide +kernel
theorem dX1_scale_34 : decode cX1_scale 34 = .ok (.aload_n 0, 1) := by decide +kernel
theorem dX1_scale_35 : decode cX1_scale 35 = .ok (.getfield 7, 3) := by decide +kernel
theorem dX1_scale_38 : decode cX1_scale 38 = .ok (.bipush 36, 2) := by decide +kernel
theorem dX1_scale_40 : decode cX1_scale 40 = .ok (.iload_n 2, 1) := by decide +kernel
theorem dX1_scale_41 : decode cX1_scale 41 = .ok (.imul, 1) := by decide +kernel
theorem dX1_scale_42 : decode cX1_scale 42 = .ok (.iload 4, 2) := by decide +kernel
theorem dX1_scale_44 : decode cX1_scale 44 = .ok (.iadd, 1) := by decide +kernel
theorem dX1_scale_45 : decode cX1_scale 45 = .ok (.iaload, 1) := by decide +kernel
theorem dX1_scale_46 : decode cX1_scale 46 = .ok (.iload_n 3, 1) := by decide +kernel
theorem dX1_scale_47 : decode cX1_scale 47 = .ok (.imul, 1) := by decide +kernel
theorem dX1_scale_48 : decode cX1_scale 48 = .ok (.iastore, 1) := by decide +kernel
theorem dX1_scale_49 : decode cX1_scale 49 = .ok (.iinc 4 1, 3) := by decide +kernel
theorem dX1_scale_52 : decode cX1_scale 52 = .ok (.goto (-31), 3) := by decide +kernel
theorem dX1_scale_55 : decode cX1_scale 55 = .ok (.aload_n 0, 1) := by decide +kernel
end
section
set_option maxRecDepth 100000
theorem dX1_scale_56 : decode cX1_scale 56 = .ok (.iload_n 1, 1) := by decide +kernel
theorem dX1_scale_57 : decode cX1_scale 57 = .ok (.invokevirtual 27, 3) := by decide +kernel
theorem dX1_scale_60 : decode cX1_scale 60 = .ok (.ireturn, 1) := by decide +kernel
theorem dX1_select_0 : decode cX1_select 0 = .ok (.aload_n 0, 1) := by decide +kernel
theorem dX1_select_1 : decode cX1_select 1 = .ok (.iload_n 1, 1) := by decide +kernel
theorem dX1_select_2 : decode cX1_select 2 = .ok (.invokevirtual 16, 3) := by decide +kernel
theorem dX1_select_5 : decode cX1_select 5 = .ok (.ifCond .eq 22, 3) := by decide +kernel
theorem dX1_select_8 : decode cX1_select 8 = .ok (.aload_n 0, 1) := by decide +kernel
theorem dX1_select_9 : decode cX1_select 9 = .ok (.iload_n 2, 1) := by decide +kernel
theorem dX1_select_10 : decode cX1_select 10 = .ok (.invokevirtual 16, 3) := by decide +kernel
theorem dX1_select_13 : decode cX1_select 13 = .ok (.ifCond .eq 14, 3) := by decide +kernel
theorem dX1_select_16 : decode cX1_select 16 = .ok (.iload_n 3, 1) := by decide +kernel
theorem dX1_select_17 : decode cX1_select 17 = .ok (.ifCond .lt 10, 3) := by decide +kernel
theorem dX1_select_20 : decode cX1_select 20 = .ok (.iload_n 3, 1) := by decide +kernel
theorem dX1_select_21 : decode cX1_select 21 = .ok (.sipush 4095, 3) := by decide +kernel
theorem dX1_select_24 : decode cX1_select 24 = .ok (.if_icmp .le 5, 3) := by decide +kernel
theorem dX1_select_27 : decode cX1_select 27 = .ok (.iconst (-1), 1) := by decide +kernel
theorem dX1_select_28 : decode cX1_select 28 = .ok (.ireturn, 1) := by decide +kernel
theorem dX1_select_29 : decode cX1_select 29 = .ok (.iconst 0, 1) := by decide +kernel
theorem dX1_select_30 : decode cX1_select 30 = .ok (.istore 4, 2) := by decide +kernel
theorem dX1_select_32 : decode cX1_select 32 = .ok (.iload 4, 2) := by decide +kernel
theorem dX1_select_34 : decode cX1_select 34 = .ok (.bipush 36, 2) := by decide +kernel
theorem dX1_select_36 : decode cX1_select 36 = .ok (.if_icmp .ge 73, 3) := by decide +kernel
theorem dX1_select_39 : decode cX1_select 39 = .ok (.iload_n 3, 1) := by decide +kernel
theorem dX1_select_40 : decode cX1_select 40 = .ok (.iload 4, 2) := by decide +kernel
theorem dX1_select_42 : decode cX1_select 42 = .ok (.bipush 6, 2) := by decide +kernel
theorem dX1_select_44 : decode cX1_select 44 = .ok (.idiv, 1) := by decide +kernel
theorem dX1_select_45 : decode cX1_select 45 = .ok (.ishr, 1) := by decide +kernel
theorem dX1_select_46 : decode cX1_select 46 = .ok (.iconst 1, 1) := by decide +kernel
theorem dX1_select_47 : decode cX1_select 47 = .ok (.iand, 1) := by decide +kernel
theorem dX1_select_48 : decode cX1_select 48 = .ok (.iconst 1, 1) := by decide +kernel
theorem dX1_select_49 : decode cX1_select 49 = .ok (.if_icmp .ne 23, 3) := by decide +kernel
theorem dX1_select_52 : decode cX1_select 52 = .ok (.iload_n 3, 1) := by decide +kernel
theorem dX1_select_53 : decode cX1_select 53 = .ok (.bipush 6, 2) := by decide +kernel
theorem dX1_select_55 : decode cX1_select 55 = .ok (.iload 4, 2) := by decide +kernel
theorem dX1_select_57 : decode cX1_select 57 = .ok (.bipush 6, 2) := by decide +kernel
theorem dX1_select_59 : decode cX1_select 59 = .ok (.irem, 1) := by decide +kernel
theorem dX1_select_60 : decode cX1_select 60 = .ok (.iadd, 1) := by decide +kernel
theorem dX1_select_61 : decode cX1_select 61 = .ok (.ishr, 1) := by decide +kernel
theorem dX1_select_62 : decode cX1_select 62 = .ok (.iconst 1, 1) := by decide +kernel
theorem dX1_select_63 : decode cX1_select 63 = .ok (.iand, 1) := by decide +kernel
theorem dX1_select_64 : decode cX1_select 64 = .ok (.iconst 1, 1) := by decide +kernel
theorem dX1_select_65 : decode cX1_select 65 = .ok (.if_icmp .ne 7, 3) := by decide +kernel
theorem dX1_select_68 : decode cX1_select 68 = .ok (.iconst 1, 1) := by decide +kernel
theorem dX1_select_69 : decode cX1_select 69 = .ok (.goto 4, 3) := by decide +kernel
theorem dX1_select_72 : decode cX1_select 72 = .ok (.iconst 0, 1) := by decide +kernel
theorem dX1_select_73 : decode cX1_select 73 = .ok (.istore 5, 2) := by decide +kernel
theorem dX1_select_75 : decode cX1_select 75 = .ok (.aload_n 0, 1) := by decide +kernel
theorem dX1_select_76 : decode cX1_select 76 = .ok (.getfield 13, 3) := by decide +kernel
theorem dX1_select_79 : decode cX1_select 79 = .ok (.iload 4, 2) := by decide +kernel
theorem dX1_select_81 : decode cX1_select 81 = .ok (.iload 5, 2) := by decide +kernel
theorem dX1_select_83 : decode cX1_select 83 = .ok (.ifCond .eq 18, 3) := by decide +kernel
theorem dX1_select_86 : decode cX1_select 86 = .ok (.aload_n 0, 1) := by decide +kernel
theorem dX1_select_87 : decode cX1_select 87 = .ok (.getfield 7, 3) := by decide +kernel
theorem dX1_select_90 : decode cX1_select 90 = .ok (.bipush 36, 2) := by decide +kernel
theorem dX1_select_92 : decode cX1_select 92 = .ok (.iload_n 2, 1) := by decide +kernel
theorem dX1_select_93 : decode cX1_select 93 = .ok (.imul, 1) := by decide +kernel
theorem dX1_select_94 : decode cX1_select 94 = .ok (.iload 4, 2) := by decide +kernel
theorem dX1_select_96 : decode cX1_select 96 = .ok (.iadd, 1) := by decide +kernel
theorem dX1_select_97 : decode cX1_select 97 = .ok (.iaload, 1) := by decide +kernel
theorem dX1_select_98 : decode cX1_select 98 = .ok (.goto 4, 3) := by decide +kernel
theorem dX1_select_101 : decode cX1_select 101 = .ok (.iconst 0, 1) := by decide +kernel
theorem dX1_select_102 : decode cX1_select 102 = .ok (.iastore, 1) := by decide +kernel
theorem dX1_select_103 : decode cX1_select 103 = .ok (.iinc 4 1, 3) := by decide +kernel
theorem dX1_select_106 : decode cX1_select 106 = .ok (.goto (-74), 3) := by decide +kernel
theorem dX1_select_109 : decode cX1_select 109 = .ok (.aload_n 0, 1) := by decide +kernel
theorem dX1_select_110 : decode cX1_select 110 = .ok (.iload_n 1, 1) := by decide +kernel
theorem dX1_select_111 : decode cX1_select 111 = .ok (.invokevirtual 27, 3) := by decide +kernel
theorem dX1_select_114 : decode cX1_select 114 = .ok (.ireturn, 1) := by decide +kernel
theorem dX1_at_0 : decode cX1_at 0 = .ok (.aload_n 0, 1) := by decide +kernel
theorem dX1_at_1 : decode cX1_at 1 = .ok (.iload_n 1, 1) := by decide +kernel
theorem dX1_at_2 : decode cX1_at 2 = .ok (.invokevirtual 16, 3) := by decide +kernel
theorem dX1_at_5 : decode cX1_at 5 = .ok (.ifCond .eq 29, 3) := by decide +kernel
theorem dX1_at_8 : decode cX1_at 8 = .ok (.aload_n 0, 1) := by decide +kernel
theorem dX1_at_9 : decode cX1_at 9 = .ok (.iload_n 2, 1) := by decide +kernel
theorem dX1_at_10 : decode cX1_at 10 = .ok (.invokevirtual 20, 3) := by decide +kernel
theorem dX1_at_13 : decode cX1_at 13 = .ok (.ifCond .eq 21, 3) := by decide +kernel
theorem dX1_at_16 : decode cX1_at 16 = .ok (.aload_n 0, 1) := by decide +kernel
theorem dX1_at_17 : decode cX1_at 17 = .ok (.iload_n 3, 1) := by decide +kernel
theorem dX1_at_18 : decode cX1_at 18 = .ok (.invokevirtual 20, 3) := by decide +kernel
theorem dX1_at_21 : decode cX1_at 21 = .ok (.ifCond .eq 13, 3) := by decide +kernel
theorem dX1_at_24 : decode cX1_at 24 = .ok (.aload_n 0, 1) := by decide +kernel
theorem dX1_at_25 : decode cX1_at 25 = .ok (.iload_n 1, 1) := by decide +kernel
theorem dX1_at_26 : decode cX1_at 26 = .ok (.iload_n 2, 1) := by decide +kernel
theorem dX1_at_27 : decode cX1_at 27 = .ok (.iload_n 3, 1) := by decide +kernel
theorem dX1_at_28 : decode cX1_at 28 = .ok (.invokevirtual 30, 3) := by decide +kernel
theorem dX1_at_31 : decode cX1_at 31 = .ok (.goto 4, 3) := by decide +kernel
theorem dX1_at_34 : decode cX1_at 34 = .ok (.iconst 0, 1) := by decide +kernel
theorem dX1_at_35 : decode cX1_at 35 = .ok (.ireturn, 1) := by decide +kernel
theorem dX1_next_0 : decode cX1_next 0 = .ok (.iconst 0, 1) := by decide +kernel
theorem dX1_next_1 : decode cX1_next 1 = .ok (.istore 4, 2) := by decide +kernel
theorem dX1_next_3 : decode cX1_next 3 = .ok (.iload 4, 2) := by decide +kernel
theorem dX1_next_5 : decode cX1_next 5 = .ok (.bipush 6, 2) := by decide +kernel
theorem dX1_next_7 : decode cX1_next 7 = .ok (.if_icmp .ge 45, 3) := by decide +kernel
theorem dX1_next_10 : decode cX1_next 10 = .ok (.aload_n 0, 1) := by decide +kernel
theorem dX1_next_11 : decode cX1_next 11 = .ok (.iload_n 1, 1) := by decide +kernel
theorem dX1_next_12 : decode cX1_next 12 = .ok (.invokevirtual 16, 3) := by decide +kernel
theorem dX1_next_15 : decode cX1_next 15 = .ok (.ifCond .eq 37, 3) := by decide +kernel
theorem dX1_next_18 : decode cX1_next 18 = .ok (.aload_n 0, 1) := by decide +kernel
theorem dX1_next_19 : decode cX1_next 19 = .ok (.iload_n 2, 1) := by decide +kernel
theorem dX1_next_20 : decode cX1_next 20 = .ok (.invokevirtual 20, 3) := by decide +kernel
theorem dX1_next_23 : decode cX1_next 23 = .ok (.ifCond .eq 29, 3) := by decide +kernel
theorem dX1_next_26 : decode cX1_next 26 = .ok (.iload 4, 2) := by decide +kernel
theorem dX1_next_28 : decode cX1_next 28 = .ok (.iload_n 3, 1) := by decide +kernel
theorem dX1_next_29 : decode cX1_next 29 = .ok (.if_icmp .lt 17, 3) := by decide +kernel
theorem dX1_next_32 : decode cX1_next 32 = .ok (.aload_n 0, 1) := by decide +kernel
theorem dX1_next_33 : decode cX1_next 33 = .ok (.iload_n 1, 1) := by decide +kernel
theorem dX1_next_34 : decode cX1_next 34 = .ok (.iload_n 2, 1) := by decide +kernel
theorem dX1_next_35 : decode cX1_next 35 = .ok (.iload 4, 2) := by decide +kernel
theorem dX1_next_37 : decode cX1_next 37 = .ok (.invokevirtual 30, 3) := by decide +kernel
theorem dX1_next_40 : decode cX1_next 40 = .ok (.ifCond .eq 6, 3) := by decide +kernel
theorem dX1_next_43 : decode cX1_next 43 = .ok (.iload 4, 2) := by decide +kernel
theorem dX1_next_45 : decode cX1_next 45 = .ok (.ireturn, 1) := by decide +kernel
theorem dX1_next_46 : decode cX1_next 46 = .ok (.iinc 4 1, 3) := by decide +kernel
theorem dX1_next_49 : decode cX1_next 49 = .ok (.goto (-46), 3) := by decide +kernel
theorem dX1_next_52 : decode cX1_next 52 = .ok (.iconst (-1), 1) := by decide +kernel
theorem dX1_next_53 : decode cX1_next 53 = .ok (.ireturn, 1) := by decide +kernel
theorem dX1_rowsProduct_0 : decode cX1_rowsProduct 0 = .ok (.iconst 0, 1) := by decide +kernel
theorem dX1_rowsProduct_1 : decode cX1_rowsProduct 1 = .ok (.istore 5, 2) := by decide +kernel
theorem dX1_rowsProduct_3 : decode cX1_rowsProduct 3 = .ok (.iconst 0, 1) := by decide +kernel
theorem dX1_rowsProduct_4 : decode cX1_rowsProduct 4 = .ok (.istore 6, 2) := by decide +kernel
theorem dX1_rowsProduct_6 : decode cX1_rowsProduct 6 = .ok (.iload 6, 2) := by decide +kernel
theorem dX1_rowsProduct_8 : decode cX1_rowsProduct 8 = .ok (.bipush 6, 2) := by decide +kernel
theorem dX1_rowsProduct_10 : decode cX1_rowsProduct 10 = .ok (.if_icmp .ge 65, 3) := by decide +kernel
theorem dX1_rowsProduct_13 : decode cX1_rowsProduct 13 = .ok (.aload_n 0, 1) := by decide +kernel
theorem dX1_rowsProduct_14 : decode cX1_rowsProduct 14 = .ok (.iload_n 1, 1) := by decide +kernel
theorem dX1_rowsProduct_15 : decode cX1_rowsProduct 15 = .ok (.invokevirtual 16, 3) := by decide +kernel
theorem dX1_rowsProduct_18 : decode cX1_rowsProduct 18 = .ok (.ifCond .eq 57, 3) := by decide +kernel
theorem dX1_rowsProduct_21 : decode cX1_rowsProduct 21 = .ok (.aload_n 0, 1) := by decide +kernel
theorem dX1_rowsProduct_22 : decode cX1_rowsProduct 22 = .ok (.iload_n 3, 1) := by decide +kernel
theorem dX1_rowsProduct_23 : decode cX1_rowsProduct 23 = .ok (.invokevirtual 16, 3) := by decide +kernel
theorem dX1_rowsProduct_26 : decode cX1_rowsProduct 26 = .ok (.ifCond .eq 49, 3) := by decide +kernel
theorem dX1_rowsProduct_29 : decode cX1_rowsProduct 29 = .ok (.aload_n 0, 1) := by decide +kernel
theorem dX1_rowsProduct_30 : decode cX1_rowsProduct 30 = .ok (.iload_n 2, 1) := by decide +kernel
theorem dX1_rowsProduct_31 : decode cX1_rowsProduct 31 = .ok (.invokevirtual 20, 3) := by decide +kernel
theorem dX1_rowsProduct_34 : decode cX1_rowsProduct 34 = .ok (.ifCond .eq 41, 3) := by decide +kernel
theorem dX1_rowsProduct_37 : decode cX1_rowsProduct 37 = .ok (.aload_n 0, 1) := by decide +kernel
theorem dX1_rowsProduct_38 : decode cX1_rowsProduct 38 = .ok (.iload 4, 2) := by decide +kernel
theorem dX1_rowsProduct_40 : decode cX1_rowsProduct 40 = .ok (.invokevirtual 20, 3) := by decide +kernel
theorem dX1_rowsProduct_43 : decode cX1_rowsProduct 43 = .ok (.ifCond .eq 32, 3) := by decide +kernel
theorem dX1_rowsProduct_46 : decode cX1_rowsProduct 46 = .ok (.iload 5, 2) := by decide +kernel
theorem dX1_rowsProduct_48 : decode cX1_rowsProduct 48 = .ok (.aload_n 0, 1) := by decide +kernel
theorem dX1_rowsProduct_49 : decode cX1_rowsProduct 49 = .ok (.iload_n 1, 1) := by decide +kernel
theorem dX1_rowsProduct_50 : decode cX1_rowsProduct 50 = .ok (.iload_n 2, 1) := by decide +kernel
theorem dX1_rowsProduct_51 : decode cX1_rowsProduct 51 = .ok (.iload 6, 2) := by decide +kernel
theorem dX1_rowsProduct_53 : decode cX1_rowsProduct 53 = .ok (.invokevirtual 30, 3) := by decide +kernel
theorem dX1_rowsProduct_56 : decode cX1_rowsProduct 56 = .ok (.aload_n 0, 1) := by decide +kernel
theorem dX1_rowsProduct_57 : decode cX1_rowsProduct 57 = .ok (.iload_n 3, 1) := by decide +kernel
theorem dX1_rowsProduct_58 : decode cX1_rowsProduct 58 = .ok (.iload 4, 2) := by decide +kernel
theorem dX1_rowsProduct_60 : decode cX1_rowsProduct 60 = .ok (.iload 6, 2) := by decide +kernel
theorem dX1_rowsProduct_62 : decode cX1_rowsProduct 62 = .ok (.invokevirtual 30, 3) := by decide +kernel
theorem dX1_rowsProduct_65 : decode cX1_rowsProduct 65 = .ok (.imul, 1) := by decide +kernel
theorem dX1_rowsProduct_66 : decode cX1_rowsProduct 66 = .ok (.iadd, 1) := by decide +kernel
theorem dX1_rowsProduct_67 : decode cX1_rowsProduct 67 = .ok (.istore 5, 2) := by decide +kernel
theorem dX1_rowsProduct_69 : decode cX1_rowsProduct 69 = .ok (.iinc 6 1, 3) := by decide +kernel
theorem dX1_rowsProduct_72 : decode cX1_rowsProduct 72 = .ok (.goto (-66), 3) := by decide +kernel
theorem dX1_rowsProduct_75 : decode cX1_rowsProduct 75 = .ok (.iload 5, 2) := by decide +kernel
theorem dX1_rowsProduct_77 : decode cX1_rowsProduct 77 = .ok (.ireturn, 1) := by decide +kernel
theorem dX1_sum_0 : decode cX1_sum 0 = .ok (.aload_n 0, 1) := by decide +kernel
theorem dX1_sum_1 : decode cX1_sum 1 = .ok (.iload_n 1, 1) := by decide +kernel
theorem dX1_sum_2 : decode cX1_sum 2 = .ok (.invokevirtual 16, 3) := by decide +kernel
theorem dX1_sum_5 : decode cX1_sum 5 = .ok (.ifCond .eq 25, 3) := by decide +kernel
theorem dX1_sum_8 : decode cX1_sum 8 = .ok (.iload_n 2, 1) := by decide +kernel
theorem dX1_sum_9 : decode cX1_sum 9 = .ok (.ifCond .lt 21, 3) := by decide +kernel
theorem dX1_sum_12 : decode cX1_sum 12 = .ok (.iload_n 2, 1) := by decide +kernel
theorem dX1_sum_13 : decode cX1_sum 13 = .ok (.iconst 2, 1) := by decide +kernel
theorem dX1_sum_14 : decode cX1_sum 14 = .ok (.if_icmp .gt 16, 3) := by decide +kernel
theorem dX1_sum_17 : decode cX1_sum 17 = .ok (.iload_n 2, 1) := by decide +kernel
theorem dX1_sum_18 : decode cX1_sum 18 = .ok (.iconst 2, 1) := by decide +kernel
theorem dX1_sum_19 : decode cX1_sum 19 = .ok (.if_icmp .eq 13, 3) := by decide +kernel
theorem dX1_sum_22 : decode cX1_sum 22 = .ok (.aload_n 0, 1) := by decide +kernel
theorem dX1_sum_23 : decode cX1_sum 23 = .ok (.iload_n 3, 1) := by decide +kernel
theorem dX1_sum_24 : decode cX1_sum 24 = .ok (.invokevirtual 20, 3) := by decide +kernel
theorem dX1_sum_27 : decode cX1_sum 27 = .ok (.ifCond .ne 5, 3) := by decide +kernel
theorem dX1_sum_30 : decode cX1_sum 30 = .ok (.iconst 0, 1) := by decide +kernel
theorem dX1_sum_31 : decode cX1_sum 31 = .ok (.ireturn, 1) := by decide +kernel
theorem dX1_sum_32 : decode cX1_sum 32 = .ok (.iconst 0, 1) := by decide +kernel
theorem dX1_sum_33 : decode cX1_sum 33 = .ok (.istore 4, 2) := by decide +kernel
theorem dX1_sum_35 : decode cX1_sum 35 = .ok (.iconst 0, 1) := by decide +kernel
theorem dX1_sum_36 : decode cX1_sum 36 = .ok (.istore 5, 2) := by decide +kernel
theorem dX1_sum_38 : decode cX1_sum 38 = .ok (.iload 5, 2) := by decide +kernel
theorem dX1_sum_40 : decode cX1_sum 40 = .ok (.bipush 6, 2) := by decide +kernel
theorem dX1_sum_42 : decode cX1_sum 42 = .ok (.if_icmp .ge 54, 3) := by decide +kernel
theorem dX1_sum_45 : decode cX1_sum 45 = .ok (.iload 4, 2) := by decide +kernel
theorem dX1_sum_47 : decode cX1_sum 47 = .ok (.iload_n 2, 1) := by decide +kernel
theorem dX1_sum_48 : decode cX1_sum 48 = .ok (.ifCond .ne 14, 3) := by decide +kernel
theorem dX1_sum_51 : decode cX1_sum 51 = .ok (.aload_n 0, 1) := by decide +kernel
theorem dX1_sum_52 : decode cX1_sum 52 = .ok (.iload_n 1, 1) := by decide +kernel
theorem dX1_sum_53 : decode cX1_sum 53 = .ok (.iload_n 3, 1) := by decide +kernel
theorem dX1_sum_54 : decode cX1_sum 54 = .ok (.iload 5, 2) := by decide +kernel
theorem dX1_sum_56 : decode cX1_sum 56 = .ok (.invokevirtual 30, 3) := by decide +kernel
theorem dX1_sum_59 : decode cX1_sum 59 = .ok (.goto 28, 3) := by decide +kernel
theorem dX1_sum_62 : decode cX1_sum 62 = .ok (.iload_n 2, 1) := by decide +kernel
theorem dX1_sum_63 : decode cX1_sum 63 = .ok (.iconst 1, 1) := by decide +kernel
theorem dX1_sum_64 : decode cX1_sum 64 = .ok (.if_icmp .ne 14, 3) := by decide +kernel
theorem dX1_sum_67 : decode cX1_sum 67 = .ok (.aload_n 0, 1) := by decide +kernel
theorem dX1_sum_68 : decode cX1_sum 68 = .ok (.iload_n 1, 1) := by decide +kernel
theorem dX1_sum_69 : decode cX1_sum 69 = .ok (.iload 5, 2) := by decide +kernel
theorem dX1_sum_71 : decode cX1_sum 71 = .ok (.iload_n 3, 1) := by decide +kernel
theorem dX1_sum_72 : decode cX1_sum 72 = .ok (.invokevirtual 30, 3) := by decide +kernel
theorem dX1_sum_75 : decode cX1_sum 75 = .ok (.goto 12, 3) := by decide +kernel
theorem dX1_sum_78 : decode cX1_sum 78 = .ok (.aload_n 0, 1) := by decide +kernel
theorem dX1_sum_79 : decode cX1_sum 79 = .ok (.iload_n 1, 1) := by decide +kernel
theorem dX1_sum_80 : decode cX1_sum 80 = .ok (.iload 5, 2) := by decide +kernel
theorem dX1_sum_82 : decode cX1_sum 82 = .ok (.iload 5, 2) := by decide +kernel
theorem dX1_sum_84 : decode cX1_sum 84 = .ok (.invokevirtual 30, 3) := by decide +kernel
theorem dX1_sum_87 : decode cX1_sum 87 = .ok (.iadd, 1) := by decide +kernel
theorem dX1_sum_88 : decode cX1_sum 88 = .ok (.istore 4, 2) := by decide +kernel
theorem dX1_sum_90 : decode cX1_sum 90 = .ok (.iinc 5 1, 3) := by decide +kernel
theorem dX1_sum_93 : decode cX1_sum 93 = .ok (.goto (-55), 3) := by decide +kernel
theorem dX1_sum_96 : decode cX1_sum 96 = .ok (.iload 4, 2) := by decide +kernel
theorem dX1_sum_98 : decode cX1_sum 98 = .ok (.ireturn, 1) := by decide +kernel
theorem dX1_same_0 : decode cX1_same 0 = .ok (.aload_n 0, 1) := by decide +kernel
theorem dX1_same_1 : decode cX1_same 1 = .ok (.iload_n 1, 1) := by decide +kernel
theorem dX1_same_2 : decode cX1_same 2 = .ok (.invokevirtual 16, 3) := by decide +kernel
theorem dX1_same_5 : decode cX1_same 5 = .ok (.ifCond .eq 15, 3) := by decide +kernel
theorem dX1_same_8 : decode cX1_same 8 = .ok (.aload_n 0, 1) := by decide +kernel
theorem dX1_same_9 : decode cX1_same 9 = .ok (.iload_n 2, 1) := by decide +kernel
theorem dX1_same_10 : decode cX1_same 10 = .ok (.invokevirtual 16, 3) := by decide +kernel
theorem dX1_same_13 : decode cX1_same 13 = .ok (.ifCond .eq 7, 3) := by decide +kernel
theorem dX1_same_16 : decode cX1_same 16 = .ok (.iconst 1, 1) := by decide +kernel
theorem dX1_same_17 : decode cX1_same 17 = .ok (.goto 4, 3) := by decide +kernel
theorem dX1_same_20 : decode cX1_same 20 = .ok (.iconst 0, 1) := by decide +kernel
theorem dX1_same_21 : decode cX1_same 21 = .ok (.istore_n 3, 1) := by decide +kernel
theorem dX1_same_22 : decode cX1_same 22 = .ok (.iconst 0, 1) := by decide +kernel
theorem dX1_same_23 : decode cX1_same 23 = .ok (.istore 4, 2) := by decide +kernel
theorem dX1_same_25 : decode cX1_same 25 = .ok (.iload 4, 2) := by decide +kernel
theorem dX1_same_27 : decode cX1_same 27 = .ok (.bipush 36, 2) := by decide +kernel
theorem dX1_same_29 : decode cX1_same 29 = .ok (.if_icmp .ge 46, 3) := by decide +kernel
theorem dX1_same_32 : decode cX1_same 32 = .ok (.iload_n 3, 1) := by decide +kernel
theorem dX1_same_33 : decode cX1_same 33 = .ok (.ifCond .eq 42, 3) := by decide +kernel
theorem dX1_same_36 : decode cX1_same 36 = .ok (.aload_n 0, 1) := by decide +kernel
theorem dX1_same_37 : decode cX1_same 37 = .ok (.getfield 7, 3) := by decide +kernel
theorem dX1_same_40 : decode cX1_same 40 = .ok (.bipush 36, 2) := by decide +kernel
theorem dX1_same_42 : decode cX1_same 42 = .ok (.iload_n 1, 1) := by decide +kernel
theorem dX1_same_43 : decode cX1_same 43 = .ok (.imul, 1) := by decide +kernel
theorem dX1_same_44 : decode cX1_same 44 = .ok (.iload 4, 2) := by decide +kernel
theorem dX1_same_46 : decode cX1_same 46 = .ok (.iadd, 1) := by decide +kernel
theorem dX1_same_47 : decode cX1_same 47 = .ok (.iaload, 1) := by decide +kernel
theorem dX1_same_48 : decode cX1_same 48 = .ok (.aload_n 0, 1) := by decide +kernel
theorem dX1_same_49 : decode cX1_same 49 = .ok (.getfield 7, 3) := by decide +kernel
theorem dX1_same_52 : decode cX1_same 52 = .ok (.bipush 36, 2) := by decide +kernel
theorem dX1_same_54 : decode cX1_same 54 = .ok (.iload_n 2, 1) := by decide +kernel
theorem dX1_same_55 : decode cX1_same 55 = .ok (.imul, 1) := by decide +kernel
theorem dX1_same_56 : decode cX1_same 56 = .ok (.iload 4, 2) := by decide +kernel
theorem dX1_same_58 : decode cX1_same 58 = .ok (.iadd, 1) := by decide +kernel
theorem dX1_same_59 : decode cX1_same 59 = .ok (.iaload, 1) := by decide +kernel
theorem dX1_same_60 : decode cX1_same 60 = .ok (.if_icmp .ne 7, 3) := by decide +kernel
theorem dX1_same_63 : decode cX1_same 63 = .ok (.iconst 1, 1) := by decide +kernel
theorem dX1_same_64 : decode cX1_same 64 = .ok (.goto 4, 3) := by decide +kernel
theorem dX1_same_67 : decode cX1_same 67 = .ok (.iconst 0, 1) := by decide +kernel
theorem dX1_same_68 : decode cX1_same 68 = .ok (.istore_n 3, 1) := by decide +kernel
theorem dX1_same_69 : decode cX1_same 69 = .ok (.iinc 4 1, 3) := by decide +kernel
theorem dX1_same_72 : decode cX1_same 72 = .ok (.goto (-47), 3) := by decide +kernel
theorem dX1_same_75 : decode cX1_same 75 = .ok (.iload_n 3, 1) := by decide +kernel
theorem dX1_same_76 : decode cX1_same 76 = .ok (.ireturn, 1) := by decide +kernel
theorem dX1_symmetric_0 : decode cX1_symmetric 0 = .ok (.aload_n 0, 1) := by decide +kernel
theorem dX1_symmetric_1 : decode cX1_symmetric 1 = .ok (.iload_n 1, 1) := by decide +kernel
theorem dX1_symmetric_2 : decode cX1_symmetric 2 = .ok (.invokevirtual 16, 3) := by decide +kernel
theorem dX1_symmetric_5 : decode cX1_symmetric 5 = .ok (.istore_n 2, 1) := by decide +kernel
theorem dX1_symmetric_6 : decode cX1_symmetric 6 = .ok (.iconst 0, 1) := by decide +kernel
theorem dX1_symmetric_7 : decode cX1_symmetric 7 = .ok (.istore_n 3, 1) := by decide +kernel
theorem dX1_symmetric_8 : decode cX1_symmetric 8 = .ok (.iload_n 3, 1) := by decide +kernel
theorem dX1_symmetric_9 : decode cX1_symmetric 9 = .ok (.bipush 36, 2) := by decide +kernel
theorem dX1_symmetric_11 : decode cX1_symmetric 11 = .ok (.if_icmp .ge 48, 3) := by decide +kernel
theorem dX1_symmetric_14 : decode cX1_symmetric 14 = .ok (.iload_n 2, 1) := by decide +kernel
theorem dX1_symmetric_15 : decode cX1_symmetric 15 = .ok (.ifCond .eq 44, 3) := by decide +kernel
theorem dX1_symmetric_18 : decode cX1_symmetric 18 = .ok (.aload_n 0, 1) := by decide +kernel
theorem dX1_symmetric_19 : decode cX1_symmetric 19 = .ok (.iload_n 1, 1) := by decide +kernel
theorem dX1_symmetric_20 : decode cX1_symmetric 20 = .ok (.iload_n 3, 1) := by decide +kernel
theorem dX1_symmetric_21 : decode cX1_symmetric 21 = .ok (.bipush 6, 2) := by decide +kernel
theorem dX1_symmetric_23 : decode cX1_symmetric 23 = .ok (.idiv, 1) := by decide +kernel
theorem dX1_symmetric_24 : decode cX1_symmetric 24 = .ok (.iload_n 3, 1) := by decide +kernel
theorem dX1_symmetric_25 : decode cX1_symmetric 25 = .ok (.bipush 6, 2) := by decide +kernel
theorem dX1_symmetric_27 : decode cX1_symmetric 27 = .ok (.irem, 1) := by decide +kernel
theorem dX1_symmetric_28 : decode cX1_symmetric 28 = .ok (.invokevirtual 30, 3) := by decide +kernel
theorem dX1_symmetric_31 : decode cX1_symmetric 31 = .ok (.aload_n 0, 1) := by decide +kernel
theorem dX1_symmetric_32 : decode cX1_symmetric 32 = .ok (.iload_n 1, 1) := by decide +kernel
theorem dX1_symmetric_33 : decode cX1_symmetric 33 = .ok (.iload_n 3, 1) := by decide +kernel
theorem dX1_symmetric_34 : decode cX1_symmetric 34 = .ok (.bipush 6, 2) := by decide +kernel
theorem dX1_symmetric_36 : decode cX1_symmetric 36 = .ok (.irem, 1) := by decide +kernel
theorem dX1_symmetric_37 : decode cX1_symmetric 37 = .ok (.iload_n 3, 1) := by decide +kernel
theorem dX1_symmetric_38 : decode cX1_symmetric 38 = .ok (.bipush 6, 2) := by decide +kernel
theorem dX1_symmetric_40 : decode cX1_symmetric 40 = .ok (.idiv, 1) := by decide +kernel
theorem dX1_symmetric_41 : decode cX1_symmetric 41 = .ok (.invokevirtual 30, 3) := by decide +kernel
theorem dX1_symmetric_44 : decode cX1_symmetric 44 = .ok (.if_icmp .ne 7, 3) := by decide +kernel
theorem dX1_symmetric_47 : decode cX1_symmetric 47 = .ok (.iconst 1, 1) := by decide +kernel
theorem dX1_symmetric_48 : decode cX1_symmetric 48 = .ok (.goto 4, 3) := by decide +kernel
theorem dX1_symmetric_51 : decode cX1_symmetric 51 = .ok (.iconst 0, 1) := by decide +kernel
theorem dX1_symmetric_52 : decode cX1_symmetric 52 = .ok (.istore_n 2, 1) := by decide +kernel
theorem dX1_symmetric_53 : decode cX1_symmetric 53 = .ok (.iinc 3 1, 3) := by decide +kernel
theorem dX1_symmetric_56 : decode cX1_symmetric 56 = .ok (.goto (-48), 3) := by decide +kernel
theorem dX1_symmetric_59 : decode cX1_symmetric 59 = .ok (.iload_n 2, 1) := by decide +kernel
theorem dX1_symmetric_60 : decode cX1_symmetric 60 = .ok (.ireturn, 1) := by decide +kernel
end
section
set_option maxRecDepth 100000
theorem dL_law_0 : decode cL_law 0 = .ok (.new 7, 3) := by decide +kernel
theorem dL_law_3 : decode cL_law 3 = .ok (.dup, 1) := by decide +kernel
theorem dL_law_4 : decode cL_law 4 = .ok (.invokespecial 9, 3) := by decide +kernel
theorem dL_law_7 : decode cL_law 7 = .ok (.astore_n 1, 1) := by decide +kernel
theorem dL_law_8 : decode cL_law 8 = .ok (.new 10, 3) := by decide +kernel
theorem dL_law_11 : decode cL_law 11 = .ok (.dup, 1) := by decide +kernel
theorem dL_law_12 : decode cL_law 12 = .ok (.invokespecial 12, 3) := by decide +kernel
theorem dL_law_15 : decode cL_law 15 = .ok (.astore_n 2, 1) := by decide +kernel
theorem dL_law_16 : decode cL_law 16 = .ok (.iconst 0, 1) := by decide +kernel
theorem dL_law_17 : decode cL_law 17 = .ok (.istore_n 3, 1) := by decide +kernel
theorem dL_law_18 : decode cL_law 18 = .ok (.iload_n 3, 1) := by decide +kernel
theorem dL_law_19 : decode cL_law 19 = .ok (.aload_n 0, 1) := by decide +kernel
theorem dL_law_20 : decode cL_law 20 = .ok (.arraylength, 1) := by decide +kernel
theorem dL_law_21 : decode cL_law 21 = .ok (.iconst 5, 1) := by decide +kernel
theorem dL_law_22 : decode cL_law 22 = .ok (.isub, 1) := by decide +kernel
theorem dL_law_23 : decode cL_law 23 = .ok (.if_icmp .gt 686, 3) := by decide +kernel
theorem dL_law_26 : decode cL_law 26 = .ok (.aload_n 0, 1) := by decide +kernel
theorem dL_law_27 : decode cL_law 27 = .ok (.iload_n 3, 1) := by decide +kernel
theorem dL_law_28 : decode cL_law 28 = .ok (.iaload, 1) := by decide +kernel
theorem dL_law_29 : decode cL_law 29 = .ok (.bipush 15, 2) := by decide +kernel
theorem dL_law_31 : decode cL_law 31 = .ok (.iand, 1) := by decide +kernel
theorem dL_law_32 : decode cL_law 32 = .ok (.tableswitch 671 0 14 #[76, 129, 172, 215, 258, 291, 324, 367, 410, 453, 476, 519, 572, 615, 648], 76) := by decide +kernel
theorem dL_law_108 : decode cL_law 108 = .ok (.aload_n 1, 1) := by decide +kernel
theorem dL_law_109 : decode cL_law 109 = .ok (.aload_n 0, 1) := by decide +kernel
theorem dL_law_110 : decode cL_law 110 = .ok (.iload_n 3, 1) := by decide +kernel
theorem dL_law_111 : decode cL_law 111 = .ok (.iconst 1, 1) := by decide +kernel
theorem dL_law_112 : decode cL_law 112 = .ok (.iadd, 1) := by decide +kernel
theorem dL_law_113 : decode cL_law 113 = .ok (.iaload, 1) := by decide +kernel
theorem dL_law_114 : decode cL_law 114 = .ok (.aload_n 0, 1) := by decide +kernel
theorem dL_law_115 : decode cL_law 115 = .ok (.iload_n 3, 1) := by decide +kernel
theorem dL_law_116 : decode cL_law 116 = .ok (.iconst 2, 1) := by decide +kernel
theorem dL_law_117 : decode cL_law 117 = .ok (.iadd, 1) := by decide +kernel
theorem dL_law_118 : decode cL_law 118 = .ok (.iaload, 1) := by decide +kernel
theorem dL_law_119 : decode cL_law 119 = .ok (.aload_n 0, 1) := by decide +kernel
theorem dL_law_120 : decode cL_law 120 = .ok (.iload_n 3, 1) := by decide +kernel
theorem dL_law_121 : decode cL_law 121 = .ok (.iconst 3, 1) := by decide +kernel
theorem dL_law_122 : decode cL_law 122 = .ok (.iadd, 1) := by decide +kernel
theorem dL_law_123 : decode cL_law 123 = .ok (.iaload, 1) := by decide +kernel
theorem dL_law_124 : decode cL_law 124 = .ok (.aload_n 0, 1) := by decide +kernel
theorem dL_law_125 : decode cL_law 125 = .ok (.iload_n 3, 1) := by decide +kernel
theorem dL_law_126 : decode cL_law 126 = .ok (.iconst 4, 1) := by decide +kernel
theorem dL_law_127 : decode cL_law 127 = .ok (.iadd, 1) := by decide +kernel
theorem dL_law_128 : decode cL_law 128 = .ok (.iaload, 1) := by decide +kernel
theorem dL_law_129 : decode cL_law 129 = .ok (.invokevirtual 13, 3) := by decide +kernel
theorem dL_law_132 : decode cL_law 132 = .ok (.aload_n 2, 1) := by decide +kernel
theorem dL_law_133 : decode cL_law 133 = .ok (.aload_n 0, 1) := by decide +kernel
theorem dL_law_134 : decode cL_law 134 = .ok (.iload_n 3, 1) := by decide +kernel
theorem dL_law_135 : decode cL_law 135 = .ok (.iconst 1, 1) := by decide +kernel
theorem dL_law_136 : decode cL_law 136 = .ok (.iadd, 1) := by decide +kernel
theorem dL_law_137 : decode cL_law 137 = .ok (.iaload, 1) := by decide +kernel
theorem dL_law_138 : decode cL_law 138 = .ok (.aload_n 0, 1) := by decide +kernel
theorem dL_law_139 : decode cL_law 139 = .ok (.iload_n 3, 1) := by decide +kernel
theorem dL_law_140 : decode cL_law 140 = .ok (.iconst 2, 1) := by decide +kernel
theorem dL_law_141 : decode cL_law 141 = .ok (.iadd, 1) := by decide +kernel
theorem dL_law_142 : decode cL_law 142 = .ok (.iaload, 1) := by decide +kernel
theorem dL_law_143 : decode cL_law 143 = .ok (.aload_n 0, 1) := by decide +kernel
theorem dL_law_144 : decode cL_law 144 = .ok (.iload_n 3, 1) := by decide +kernel
theorem dL_law_145 : decode cL_law 145 = .ok (.iconst 3, 1) := by decide +kernel
theorem dL_law_146 : decode cL_law 146 = .ok (.iadd, 1) := by decide +kernel
theorem dL_law_147 : decode cL_law 147 = .ok (.iaload, 1) := by decide +kernel
theorem dL_law_148 : decode cL_law 148 = .ok (.aload_n 0, 1) := by decide +kernel
theorem dL_law_149 : decode cL_law 149 = .ok (.iload_n 3, 1) := by decide +kernel
theorem dL_law_150 : decode cL_law 150 = .ok (.iconst 4, 1) := by decide +kernel
theorem dL_law_151 : decode cL_law 151 = .ok (.iadd, 1) := by decide +kernel
theorem dL_law_152 : decode cL_law 152 = .ok (.iaload, 1) := by decide +kernel
theorem dL_law_153 : decode cL_law 153 = .ok (.invokevirtual 17, 3) := by decide +kernel
theorem dL_law_156 : decode cL_law 156 = .ok (.if_icmp .eq 547, 3) := by decide +kernel
theorem dL_law_159 : decode cL_law 159 = .ok (.iconst 0, 1) := by decide +kernel
theorem dL_law_160 : decode cL_law 160 = .ok (.ireturn, 1) := by decide +kernel
theorem dL_law_161 : decode cL_law 161 = .ok (.aload_n 1, 1) := by decide +kernel
theorem dL_law_162 : decode cL_law 162 = .ok (.aload_n 0, 1) := by decide +kernel
theorem dL_law_163 : decode cL_law 163 = .ok (.iload_n 3, 1) := by decide +kernel
theorem dL_law_164 : decode cL_law 164 = .ok (.iconst 1, 1) := by decide +kernel
theorem dL_law_165 : decode cL_law 165 = .ok (.iadd, 1) := by decide +kernel
theorem dL_law_166 : decode cL_law 166 = .ok (.iaload, 1) := by decide +kernel
theorem dL_law_167 : decode cL_law 167 = .ok (.aload_n 0, 1) := by decide +kernel
theorem dL_law_168 : decode cL_law 168 = .ok (.iload_n 3, 1) := by decide +kernel
theorem dL_law_169 : decode cL_law 169 = .ok (.iconst 2, 1) := by decide +kernel
theorem dL_law_170 : decode cL_law 170 = .ok (.iadd, 1) := by decide +kernel
theorem dL_law_171 : decode cL_law 171 = .ok (.iaload, 1) := by decide +kernel
theorem dL_law_172 : decode cL_law 172 = .ok (.aload_n 0, 1) := by decide +kernel
theorem dL_law_173 : decode cL_law 173 = .ok (.iload_n 3, 1) := by decide +kernel
theorem dL_law_174 : decode cL_law 174 = .ok (.iconst 3, 1) := by decide +kernel
theorem dL_law_175 : decode cL_law 175 = .ok (.iadd, 1) := by decide +kernel
theorem dL_law_176 : decode cL_law 176 = .ok (.iaload, 1) := by decide +kernel
theorem dL_law_177 : decode cL_law 177 = .ok (.invokevirtual 18, 3) := by decide +kernel
theorem dL_law_180 : decode cL_law 180 = .ok (.aload_n 2, 1) := by decide +kernel
theorem dL_law_181 : decode cL_law 181 = .ok (.aload_n 0, 1) := by decide +kernel
theorem dL_law_182 : decode cL_law 182 = .ok (.iload_n 3, 1) := by decide +kernel
theorem dL_law_183 : decode cL_law 183 = .ok (.iconst 1, 1) := by decide +kernel
theorem dL_law_184 : decode cL_law 184 = .ok (.iadd, 1) := by decide +kernel
theorem dL_law_185 : decode cL_law 185 = .ok (.iaload, 1) := by decide +kernel
theorem dL_law_186 : decode cL_law 186 = .ok (.aload_n 0, 1) := by decide +kernel
theorem dL_law_187 : decode cL_law 187 = .ok (.iload_n 3, 1) := by decide +kernel
theorem dL_law_188 : decode cL_law 188 = .ok (.iconst 2, 1) := by decide +kernel
theorem dL_law_189 : decode cL_law 189 = .ok (.iadd, 1) := by decide +kernel
theorem dL_law_190 : decode cL_law 190 = .ok (.iaload, 1) := by decide +kernel
theorem dL_law_191 : decode cL_law 191 = .ok (.aload_n 0, 1) := by decide +kernel
theorem dL_law_192 : decode cL_law 192 = .ok (.iload_n 3, 1) := by decide +kernel
theorem dL_law_193 : decode cL_law 193 = .ok (.iconst 3, 1) := by decide +kernel
theorem dL_law_194 : decode cL_law 194 = .ok (.iadd, 1) := by decide +kernel
theorem dL_law_195 : decode cL_law 195 = .ok (.iaload, 1) := by decide +kernel
theorem dL_law_196 : decode cL_law 196 = .ok (.invokevirtual 22, 3) := by decide +kernel
theorem dL_law_199 : decode cL_law 199 = .ok (.if_icmp .eq 504, 3) := by decide +kernel
theorem dL_law_202 : decode cL_law 202 = .ok (.iconst 0, 1) := by decide +kernel
theorem dL_law_203 : decode cL_law 203 = .ok (.ireturn, 1) := by decide +kernel
theorem dL_law_204 : decode cL_law 204 = .ok (.aload_n 1, 1) := by decide +kernel
theorem dL_law_205 : decode cL_law 205 = .ok (.aload_n 0, 1) := by decide +kernel
theorem dL_law_206 : decode cL_law 206 = .ok (.iload_n 3, 1) := by decide +kernel
theorem dL_law_207 : decode cL_law 207 = .ok (.iconst 1, 1) := by decide +kernel
theorem dL_law_208 : decode cL_law 208 = .ok (.iadd, 1) := by decide +kernel
theorem dL_law_209 : decode cL_law 209 = .ok (.iaload, 1) := by decide +kernel
theorem dL_law_210 : decode cL_law 210 = .ok (.aload_n 0, 1) := by decide +kernel
theorem dL_law_211 : decode cL_law 211 = .ok (.iload_n 3, 1) := by decide +kernel
theorem dL_law_212 : decode cL_law 212 = .ok (.iconst 2, 1) := by decide +kernel
theorem dL_law_213 : decode cL_law 213 = .ok (.iadd, 1) := by decide +kernel
theorem dL_law_214 : decode cL_law 214 = .ok (.iaload, 1) := by decide +kernel
theorem dL_law_215 : decode cL_law 215 = .ok (.aload_n 0, 1) := by decide +kernel
theorem dL_law_216 : decode cL_law 216 = .ok (.iload_n 3, 1) := by decide +kernel
theorem dL_law_217 : decode cL_law 217 = .ok (.iconst 3, 1) := by decide +kernel
theorem dL_law_218 : decode cL_law 218 = .ok (.iadd, 1) := by decide +kernel
theorem dL_law_219 : decode cL_law 219 = .ok (.iaload, 1) := by decide +kernel
theorem dL_law_220 : decode cL_law 220 = .ok (.invokevirtual 23, 3) := by decide +kernel
theorem dL_law_223 : decode cL_law 223 = .ok (.aload_n 2, 1) := by decide +kernel
theorem dL_law_224 : decode cL_law 224 = .ok (.aload_n 0, 1) := by decide +kernel
theorem dL_law_225 : decode cL_law 225 = .ok (.iload_n 3, 1) := by decide +kernel
theorem dL_law_226 : decode cL_law 226 = .ok (.iconst 1, 1) := by decide +kernel
theorem dL_law_227 : decode cL_law 227 = .ok (.iadd, 1) := by decide +kernel
theorem dL_law_228 : decode cL_law 228 = .ok (.iaload, 1) := by decide +kernel
theorem dL_law_229 : decode cL_law 229 = .ok (.aload_n 0, 1) := by decide +kernel
theorem dL_law_230 : decode cL_law 230 = .ok (.iload_n 3, 1) := by decide +kernel
theorem dL_law_231 : decode cL_law 231 = .ok (.iconst 2, 1) := by decide +kernel
theorem dL_law_232 : decode cL_law 232 = .ok (.iadd, 1) := by decide +kernel
theorem dL_law_233 : decode cL_law 233 = .ok (.iaload, 1) := by decide +kernel
theorem dL_law_234 : decode cL_law 234 = .ok (.aload_n 0, 1) := by decide +kernel
theorem dL_law_235 : decode cL_law 235 = .ok (.iload_n 3, 1) := by decide +kernel
theorem dL_law_236 : decode cL_law 236 = .ok (.iconst 3, 1) := by decide +kernel
theorem dL_law_237 : decode cL_law 237 = .ok (.iadd, 1) := by decide +kernel
theorem dL_law_238 : decode cL_law 238 = .ok (.iaload, 1) := by decide +kernel
theorem dL_law_239 : decode cL_law 239 = .ok (.invokevirtual 26, 3) := by decide +kernel
theorem dL_law_242 : decode cL_law 242 = .ok (.if_icmp .eq 461, 3) := by decide +kernel
theorem dL_law_245 : decode cL_law 245 = .ok (.iconst 0, 1) := by decide +kernel
theorem dL_law_246 : decode cL_law 246 = .ok (.ireturn, 1) := by decide +kernel
theorem dL_law_247 : decode cL_law 247 = .ok (.aload_n 1, 1) := by decide +kernel
theorem dL_law_248 : decode cL_law 248 = .ok (.aload_n 0, 1) := by decide +kernel
theorem dL_law_249 : decode cL_law 249 = .ok (.iload_n 3, 1) := by decide +kernel
theorem dL_law_250 : decode cL_law 250 = .ok (.iconst 1, 1) := by decide +kernel
theorem dL_law_251 : decode cL_law 251 = .ok (.iadd, 1) := by decide +kernel
theorem dL_law_252 : decode cL_law 252 = .ok (.iaload, 1) := by decide +kernel
theorem dL_law_253 : decode cL_law 253 = .ok (.aload_n 0, 1) := by decide +kernel
theorem dL_law_254 : decode cL_law 254 = .ok (.iload_n 3, 1) := by decide +kernel
theorem dL_law_255 : decode cL_law 255 = .ok (.iconst 2, 1) := by decide +kernel
theorem dL_law_256 : decode cL_law 256 = .ok (.iadd, 1) := by decide +kernel
theorem dL_law_257 : decode cL_law 257 = .ok (.iaload, 1) := by decide +kernel
theorem dL_law_258 : decode cL_law 258 = .ok (.aload_n 0, 1) := by decide +kernel
theorem dL_law_259 : decode cL_law 259 = .ok (.iload_n 3, 1) := by decide +kernel
theorem dL_law_260 : decode cL_law 260 = .ok (.iconst 3, 1) := by decide +kernel
theorem dL_law_261 : decode cL_law 261 = .ok (.iadd, 1) := by decide +kernel
theorem dL_law_262 : decode cL_law 262 = .ok (.iaload, 1) := by decide +kernel
theorem dL_law_263 : decode cL_law 263 = .ok (.invokevirtual 27, 3) := by decide +kernel
theorem dL_law_266 : decode cL_law 266 = .ok (.aload_n 2, 1) := by decide +kernel
theorem dL_law_267 : decode cL_law 267 = .ok (.aload_n 0, 1) := by decide +kernel
theorem dL_law_268 : decode cL_law 268 = .ok (.iload_n 3, 1) := by decide +kernel
theorem dL_law_269 : decode cL_law 269 = .ok (.iconst 1, 1) := by decide +kernel
theorem dL_law_270 : decode cL_law 270 = .ok (.iadd, 1) := by decide +kernel
theorem dL_law_271 : decode cL_law 271 = .ok (.iaload, 1) := by decide +kernel
theorem dL_law_272 : decode cL_law 272 = .ok (.aload_n 0, 1) := by decide +kernel
theorem dL_law_273 : decode cL_law 273 = .ok (.iload_n 3, 1) := by decide +kernel
theorem dL_law_274 : decode cL_law 274 = .ok (.iconst 2, 1) := by decide +kernel
theorem dL_law_275 : decode cL_law 275 = .ok (.iadd, 1) := by decide +kernel
theorem dL_law_276 : decode cL_law 276 = .ok (.iaload, 1) := by decide +kernel
theorem dL_law_277 : decode cL_law 277 = .ok (.aload_n 0, 1) := by decide +kernel
theorem dL_law_278 : decode cL_law 278 = .ok (.iload_n 3, 1) := by decide +kernel
theorem dL_law_279 : decode cL_law 279 = .ok (.iconst 3, 1) := by decide +kernel
theorem dL_law_280 : decode cL_law 280 = .ok (.iadd, 1) := by decide +kernel
theorem dL_law_281 : decode cL_law 281 = .ok (.iaload, 1) := by decide +kernel
theorem dL_law_282 : decode cL_law 282 = .ok (.invokevirtual 30, 3) := by decide +kernel
theorem dL_law_285 : decode cL_law 285 = .ok (.if_icmp .eq 418, 3) := by decide +kernel
theorem dL_law_288 : decode cL_law 288 = .ok (.iconst 0, 1) := by decide +kernel
theorem dL_law_289 : decode cL_law 289 = .ok (.ireturn, 1) := by decide +kernel
theorem dL_law_290 : decode cL_law 290 = .ok (.aload_n 1, 1) := by decide +kernel
theorem dL_law_291 : decode cL_law 291 = .ok (.aload_n 0, 1) := by decide +kernel
theorem dL_law_292 : decode cL_law 292 = .ok (.iload_n 3, 1) := by decide +kernel
theorem dL_law_293 : decode cL_law 293 = .ok (.iconst 1, 1) := by decide +kernel
theorem dL_law_294 : decode cL_law 294 = .ok (.iadd, 1) := by decide +kernel
theorem dL_law_295 : decode cL_law 295 = .ok (.iaload, 1) := by decide +kernel
theorem dL_law_296 : decode cL_law 296 = .ok (.aload_n 0, 1) := by decide +kernel
theorem dL_law_297 : decode cL_law 297 = .ok (.iload_n 3, 1) := by decide +kernel
theorem dL_law_298 : decode cL_law 298 = .ok (.iconst 2, 1) := by decide +kernel
theorem dL_law_299 : decode cL_law 299 = .ok (.iadd, 1) := by decide +kernel
theorem dL_law_300 : decode cL_law 300 = .ok (.iaload, 1) := by decide +kernel
theorem dL_law_301 : decode cL_law 301 = .ok (.invokevirtual 31, 3) := by decide +kernel
theorem dL_law_304 : decode cL_law 304 = .ok (.aload_n 2, 1) := by decide +kernel
theorem dL_law_305 : decode cL_law 305 = .ok (.aload_n 0, 1) := by decide +kernel
theorem dL_law_306 : decode cL_law 306 = .ok (.iload_n 3, 1) := by decide +kernel
theorem dL_law_307 : decode cL_law 307 = .ok (.iconst 1, 1) := by decide +kernel
theorem dL_law_308 : decode cL_law 308 = .ok (.iadd, 1) := by decide +kernel
theorem dL_law_309 : decode cL_law 309 = .ok (.iaload, 1) := by decide +kernel
theorem dL_law_310 : decode cL_law 310 = .ok (.aload_n 0, 1) := by decide +kernel
theorem dL_law_311 : decode cL_law 311 = .ok (.iload_n 3, 1) := by decide +kernel
theorem dL_law_312 : decode cL_law 312 = .ok (.iconst 2, 1) := by decide +kernel
theorem dL_law_313 : decode cL_law 313 = .ok (.iadd, 1) := by decide +kernel
theorem dL_law_314 : decode cL_law 314 = .ok (.iaload, 1) := by decide +kernel
theorem dL_law_315 : decode cL_law 315 = .ok (.invokevirtual 35, 3) := by decide +kernel
theorem dL_law_318 : decode cL_law 318 = .ok (.if_icmp .eq 385, 3) := by decide +kernel
theorem dL_law_321 : decode cL_law 321 = .ok (.iconst 0, 1) := by decide +kernel
theorem dL_law_322 : decode cL_law 322 = .ok (.ireturn, 1) := by decide +kernel
theorem dL_law_323 : decode cL_law 323 = .ok (.aload_n 1, 1) := by decide +kernel
theorem dL_law_324 : decode cL_law 324 = .ok (.aload_n 0, 1) := by decide +kernel
theorem dL_law_325 : decode cL_law 325 = .ok (.iload_n 3, 1) := by decide +kernel
theorem dL_law_326 : decode cL_law 326 = .ok (.iconst 1, 1) := by decide +kernel
theorem dL_law_327 : decode cL_law 327 = .ok (.iadd, 1) := by decide +kernel
theorem dL_law_328 : decode cL_law 328 = .ok (.iaload, 1) := by decide +kernel
theorem dL_law_329 : decode cL_law 329 = .ok (.aload_n 0, 1) := by decide +kernel
theorem dL_law_330 : decode cL_law 330 = .ok (.iload_n 3, 1) := by decide +kernel
theorem dL_law_331 : decode cL_law 331 = .ok (.iconst 2, 1) := by decide +kernel
theorem dL_law_332 : decode cL_law 332 = .ok (.iadd, 1) := by decide +kernel
theorem dL_law_333 : decode cL_law 333 = .ok (.iaload, 1) := by decide +kernel
theorem dL_law_334 : decode cL_law 334 = .ok (.invokevirtual 36, 3) := by decide +kernel
theorem dL_law_337 : decode cL_law 337 = .ok (.aload_n 2, 1) := by decide +kernel
theorem dL_law_338 : decode cL_law 338 = .ok (.aload_n 0, 1) := by decide +kernel
theorem dL_law_339 : decode cL_law 339 = .ok (.iload_n 3, 1) := by decide +kernel
theorem dL_law_340 : decode cL_law 340 = .ok (.iconst 1, 1) := by decide +kernel
theorem dL_law_341 : decode cL_law 341 = .ok (.iadd, 1) := by decide +kernel
theorem dL_law_342 : decode cL_law 342 = .ok (.iaload, 1) := by decide +kernel
theorem dL_law_343 : decode cL_law 343 = .ok (.aload_n 0, 1) := by decide +kernel
theorem dL_law_344 : decode cL_law 344 = .ok (.iload_n 3, 1) := by decide +kernel
theorem dL_law_345 : decode cL_law 345 = .ok (.iconst 2, 1) := by decide +kernel
theorem dL_law_346 : decode cL_law 346 = .ok (.iadd, 1) := by decide +kernel
theorem dL_law_347 : decode cL_law 347 = .ok (.iaload, 1) := by decide +kernel
theorem dL_law_348 : decode cL_law 348 = .ok (.invokevirtual 39, 3) := by decide +kernel
theorem dL_law_351 : decode cL_law 351 = .ok (.if_icmp .eq 352, 3) := by decide +kernel
theorem dL_law_354 : decode cL_law 354 = .ok (.iconst 0, 1) := by decide +kernel
theorem dL_law_355 : decode cL_law 355 = .ok (.ireturn, 1) := by decide +kernel
theorem dL_law_356 : decode cL_law 356 = .ok (.aload_n 1, 1) := by decide +kernel
theorem dL_law_357 : decode cL_law 357 = .ok (.aload_n 0, 1) := by decide +kernel
theorem dL_law_358 : decode cL_law 358 = .ok (.iload_n 3, 1) := by decide +kernel
theorem dL_law_359 : decode cL_law 359 = .ok (.iconst 1, 1) := by decide +kernel
theorem dL_law_360 : decode cL_law 360 = .ok (.iadd, 1) := by decide +kernel
theorem dL_law_361 : decode cL_law 361 = .ok (.iaload, 1) := by decide +kernel
theorem dL_law_362 : decode cL_law 362 = .ok (.aload_n 0, 1) := by decide +kernel
theorem dL_law_363 : decode cL_law 363 = .ok (.iload_n 3, 1) := by decide +kernel
theorem dL_law_364 : decode cL_law 364 = .ok (.iconst 2, 1) := by decide +kernel
theorem dL_law_365 : decode cL_law 365 = .ok (.iadd, 1) := by decide +kernel
theorem dL_law_366 : decode cL_law 366 = .ok (.iaload, 1) := by decide +kernel
theorem dL_law_367 : decode cL_law 367 = .ok (.aload_n 0, 1) := by decide +kernel
theorem dL_law_368 : decode cL_law 368 = .ok (.iload_n 3, 1) := by decide +kernel
theorem dL_law_369 : decode cL_law 369 = .ok (.iconst 3, 1) := by decide +kernel
theorem dL_law_370 : decode cL_law 370 = .ok (.iadd, 1) := by decide +kernel
theorem dL_law_371 : decode cL_law 371 = .ok (.iaload, 1) := by decide +kernel
theorem dL_law_372 : decode cL_law 372 = .ok (.invokevirtual 40, 3) := by decide +kernel
theorem dL_law_375 : decode cL_law 375 = .ok (.aload_n 2, 1) := by decide +kernel
theorem dL_law_376 : decode cL_law 376 = .ok (.aload_n 0, 1) := by decide +kernel
theorem dL_law_377 : decode cL_law 377 = .ok (.iload_n 3, 1) := by decide +kernel
theorem dL_law_378 : decode cL_law 378 = .ok (.iconst 1, 1) := by decide +kernel
theorem dL_law_379 : decode cL_law 379 = .ok (.iadd, 1) := by decide +kernel
theorem dL_law_380 : decode cL_law 380 = .ok (.iaload, 1) := by decide +kernel
theorem dL_law_381 : decode cL_law 381 = .ok (.aload_n 0, 1) := by decide +kernel
theorem dL_law_382 : decode cL_law 382 = .ok (.iload_n 3, 1) := by decide +kernel
theorem dL_law_383 : decode cL_law 383 = .ok (.iconst 2, 1) := by decide +kernel
theorem dL_law_384 : decode cL_law 384 = .ok (.iadd, 1) := by decide +kernel
theorem dL_law_385 : decode cL_law 385 = .ok (.iaload, 1) := by decide +kernel
theorem dL_law_386 : decode cL_law 386 = .ok (.aload_n 0, 1) := by decide +kernel
theorem dL_law_387 : decode cL_law 387 = .ok (.iload_n 3, 1) := by decide +kernel
theorem dL_law_388 : decode cL_law 388 = .ok (.iconst 3, 1) := by decide +kernel
theorem dL_law_389 : decode cL_law 389 = .ok (.iadd, 1) := by decide +kernel
theorem dL_law_390 : decode cL_law 390 = .ok (.iaload, 1) := by decide +kernel
theorem dL_law_391 : decode cL_law 391 = .ok (.invokevirtual 43, 3) := by decide +kernel
theorem dL_law_394 : decode cL_law 394 = .ok (.if_icmp .eq 309, 3) := by decide +kernel
theorem dL_law_397 : decode cL_law 397 = .ok (.iconst 0, 1) := by decide +kernel
theorem dL_law_398 : decode cL_law 398 = .ok (.ireturn, 1) := by decide +kernel
theorem dL_law_399 : decode cL_law 399 = .ok (.aload_n 1, 1) := by decide +kernel
theorem dL_law_400 : decode cL_law 400 = .ok (.aload_n 0, 1) := by decide +kernel
theorem dL_law_401 : decode cL_law 401 = .ok (.iload_n 3, 1) := by decide +kernel
theorem dL_law_402 : decode cL_law 402 = .ok (.iconst 1, 1) := by decide +kernel
theorem dL_law_403 : decode cL_law 403 = .ok (.iadd, 1) := by decide +kernel
theorem dL_law_404 : decode cL_law 404 = .ok (.iaload, 1) := by decide +kernel
theorem dL_law_405 : decode cL_law 405 = .ok (.aload_n 0, 1) := by decide +kernel
theorem dL_law_406 : decode cL_law 406 = .ok (.iload_n 3, 1) := by decide +kernel
theorem dL_law_407 : decode cL_law 407 = .ok (.iconst 2, 1) := by decide +kernel
end
section
set_option maxRecDepth 100000
theorem dL_law_408 : decode cL_law 408 = .ok (.iadd, 1) := by decide +kernel
theorem dL_law_409 : decode cL_law 409 = .ok (.iaload, 1) := by decide +kernel
theorem dL_law_410 : decode cL_law 410 = .ok (.aload_n 0, 1) := by decide +kernel
theorem dL_law_411 : decode cL_law 411 = .ok (.iload_n 3, 1) := by decide +kernel
theorem dL_law_412 : decode cL_law 412 = .ok (.iconst 3, 1) := by decide +kernel
theorem dL_law_413 : decode cL_law 413 = .ok (.iadd, 1) := by decide +kernel
theorem dL_law_414 : decode cL_law 414 = .ok (.iaload, 1) := by decide +kernel
theorem dL_law_415 : decode cL_law 415 = .ok (.invokevirtual 44, 3) := by decide +kernel
theorem dL_law_418 : decode cL_law 418 = .ok (.aload_n 2, 1) := by decide +kernel
theorem dL_law_419 : decode cL_law 419 = .ok (.aload_n 0, 1) := by decide +kernel
theorem dL_law_420 : decode cL_law 420 = .ok (.iload_n 3, 1) := by decide +kernel
theorem dL_law_421 : decode cL_law 421 = .ok (.iconst 1, 1) := by decide +kernel
theorem dL_law_422 : decode cL_law 422 = .ok (.iadd, 1) := by decide +kernel
theorem dL_law_423 : decode cL_law 423 = .ok (.iaload, 1) := by decide +kernel
theorem dL_law_424 : decode cL_law 424 = .ok (.aload_n 0, 1) := by decide +kernel
theorem dL_law_425 : decode cL_law 425 = .ok (.iload_n 3, 1) := by decide +kernel
theorem dL_law_426 : decode cL_law 426 = .ok (.iconst 2, 1) := by decide +kernel
theorem dL_law_427 : decode cL_law 427 = .ok (.iadd, 1) := by decide +kernel
theorem dL_law_428 : decode cL_law 428 = .ok (.iaload, 1) := by decide +kernel
theorem dL_law_429 : decode cL_law 429 = .ok (.aload_n 0, 1) := by decide +kernel
theorem dL_law_430 : decode cL_law 430 = .ok (.iload_n 3, 1) := by decide +kernel
theorem dL_law_431 : decode cL_law 431 = .ok (.iconst 3, 1) := by decide +kernel
theorem dL_law_432 : decode cL_law 432 = .ok (.iadd, 1) := by decide +kernel
theorem dL_law_433 : decode cL_law 433 = .ok (.iaload, 1) := by decide +kernel
theorem dL_law_434 : decode cL_law 434 = .ok (.invokevirtual 47, 3) := by decide +kernel
theorem dL_law_437 : decode cL_law 437 = .ok (.if_icmp .eq 266, 3) := by decide +kernel
theorem dL_law_440 : decode cL_law 440 = .ok (.iconst 0, 1) := by decide +kernel
theorem dL_law_441 : decode cL_law 441 = .ok (.ireturn, 1) := by decide +kernel
theorem dL_law_442 : decode cL_law 442 = .ok (.aload_n 1, 1) := by decide +kernel
theorem dL_law_443 : decode cL_law 443 = .ok (.aload_n 0, 1) := by decide +kernel
theorem dL_law_444 : decode cL_law 444 = .ok (.iload_n 3, 1) := by decide +kernel
theorem dL_law_445 : decode cL_law 445 = .ok (.iconst 1, 1) := by decide +kernel
theorem dL_law_446 : decode cL_law 446 = .ok (.iadd, 1) := by decide +kernel
theorem dL_law_447 : decode cL_law 447 = .ok (.iaload, 1) := by decide +kernel
theorem dL_law_448 : decode cL_law 448 = .ok (.aload_n 0, 1) := by decide +kernel
theorem dL_law_449 : decode cL_law 449 = .ok (.iload_n 3, 1) := by decide +kernel
theorem dL_law_450 : decode cL_law 450 = .ok (.iconst 2, 1) := by decide +kernel
theorem dL_law_451 : decode cL_law 451 = .ok (.iadd, 1) := by decide +kernel
theorem dL_law_452 : decode cL_law 452 = .ok (.iaload, 1) := by decide +kernel
theorem dL_law_453 : decode cL_law 453 = .ok (.aload_n 0, 1) := by decide +kernel
theorem dL_law_454 : decode cL_law 454 = .ok (.iload_n 3, 1) := by decide +kernel
theorem dL_law_455 : decode cL_law 455 = .ok (.iconst 3, 1) := by decide +kernel
theorem dL_law_456 : decode cL_law 456 = .ok (.iadd, 1) := by decide +kernel
theorem dL_law_457 : decode cL_law 457 = .ok (.iaload, 1) := by decide +kernel
theorem dL_law_458 : decode cL_law 458 = .ok (.invokevirtual 48, 3) := by decide +kernel
theorem dL_law_461 : decode cL_law 461 = .ok (.aload_n 2, 1) := by decide +kernel
theorem dL_law_462 : decode cL_law 462 = .ok (.aload_n 0, 1) := by decide +kernel
theorem dL_law_463 : decode cL_law 463 = .ok (.iload_n 3, 1) := by decide +kernel
theorem dL_law_464 : decode cL_law 464 = .ok (.iconst 1, 1) := by decide +kernel
theorem dL_law_465 : decode cL_law 465 = .ok (.iadd, 1) := by decide +kernel
theorem dL_law_466 : decode cL_law 466 = .ok (.iaload, 1) := by decide +kernel
theorem dL_law_467 : decode cL_law 467 = .ok (.aload_n 0, 1) := by decide +kernel
theorem dL_law_468 : decode cL_law 468 = .ok (.iload_n 3, 1) := by decide +kernel
theorem dL_law_469 : decode cL_law 469 = .ok (.iconst 2, 1) := by decide +kernel
theorem dL_law_470 : decode cL_law 470 = .ok (.iadd, 1) := by decide +kernel
theorem dL_law_471 : decode cL_law 471 = .ok (.iaload, 1) := by decide +kernel
theorem dL_law_472 : decode cL_law 472 = .ok (.aload_n 0, 1) := by decide +kernel
theorem dL_law_473 : decode cL_law 473 = .ok (.iload_n 3, 1) := by decide +kernel
theorem dL_law_474 : decode cL_law 474 = .ok (.iconst 3, 1) := by decide +kernel
theorem dL_law_475 : decode cL_law 475 = .ok (.iadd, 1) := by decide +kernel
theorem dL_law_476 : decode cL_law 476 = .ok (.iaload, 1) := by decide +kernel
theorem dL_law_477 : decode cL_law 477 = .ok (.invokevirtual 51, 3) := by decide +kernel
theorem dL_law_480 : decode cL_law 480 = .ok (.if_icmp .eq 223, 3) := by decide +kernel
theorem dL_law_483 : decode cL_law 483 = .ok (.iconst 0, 1) := by decide +kernel
theorem dL_law_484 : decode cL_law 484 = .ok (.ireturn, 1) := by decide +kernel
theorem dL_law_485 : decode cL_law 485 = .ok (.aload_n 1, 1) := by decide +kernel
theorem dL_law_486 : decode cL_law 486 = .ok (.aload_n 0, 1) := by decide +kernel
theorem dL_law_487 : decode cL_law 487 = .ok (.iload_n 3, 1) := by decide +kernel
theorem dL_law_488 : decode cL_law 488 = .ok (.iconst 1, 1) := by decide +kernel
theorem dL_law_489 : decode cL_law 489 = .ok (.iadd, 1) := by decide +kernel
theorem dL_law_490 : decode cL_law 490 = .ok (.iaload, 1) := by decide +kernel
theorem dL_law_491 : decode cL_law 491 = .ok (.invokevirtual 52, 3) := by decide +kernel
theorem dL_law_494 : decode cL_law 494 = .ok (.aload_n 2, 1) := by decide +kernel
theorem dL_law_495 : decode cL_law 495 = .ok (.aload_n 0, 1) := by decide +kernel
theorem dL_law_496 : decode cL_law 496 = .ok (.iload_n 3, 1) := by decide +kernel
theorem dL_law_497 : decode cL_law 497 = .ok (.iconst 1, 1) := by decide +kernel
theorem dL_law_498 : decode cL_law 498 = .ok (.iadd, 1) := by decide +kernel
theorem dL_law_499 : decode cL_law 499 = .ok (.iaload, 1) := by decide +kernel
theorem dL_law_500 : decode cL_law 500 = .ok (.invokevirtual 56, 3) := by decide +kernel
theorem dL_law_503 : decode cL_law 503 = .ok (.if_icmp .eq 200, 3) := by decide +kernel
theorem dL_law_506 : decode cL_law 506 = .ok (.iconst 0, 1) := by decide +kernel
theorem dL_law_507 : decode cL_law 507 = .ok (.ireturn, 1) := by decide +kernel
theorem dL_law_508 : decode cL_law 508 = .ok (.aload_n 1, 1) := by decide +kernel
theorem dL_law_509 : decode cL_law 509 = .ok (.aload_n 0, 1) := by decide +kernel
theorem dL_law_510 : decode cL_law 510 = .ok (.iload_n 3, 1) := by decide +kernel
theorem dL_law_511 : decode cL_law 511 = .ok (.iconst 1, 1) := by decide +kernel
theorem dL_law_512 : decode cL_law 512 = .ok (.iadd, 1) := by decide +kernel
theorem dL_law_513 : decode cL_law 513 = .ok (.iaload, 1) := by decide +kernel
theorem dL_law_514 : decode cL_law 514 = .ok (.aload_n 0, 1) := by decide +kernel
theorem dL_law_515 : decode cL_law 515 = .ok (.iload_n 3, 1) := by decide +kernel
theorem dL_law_516 : decode cL_law 516 = .ok (.iconst 2, 1) := by decide +kernel
theorem dL_law_517 : decode cL_law 517 = .ok (.iadd, 1) := by decide +kernel
theorem dL_law_518 : decode cL_law 518 = .ok (.iaload, 1) := by decide +kernel
theorem dL_law_519 : decode cL_law 519 = .ok (.aload_n 0, 1) := by decide +kernel
theorem dL_law_520 : decode cL_law 520 = .ok (.iload_n 3, 1) := by decide +kernel
theorem dL_law_521 : decode cL_law 521 = .ok (.iconst 3, 1) := by decide +kernel
theorem dL_law_522 : decode cL_law 522 = .ok (.iadd, 1) := by decide +kernel
theorem dL_law_523 : decode cL_law 523 = .ok (.iaload, 1) := by decide +kernel
theorem dL_law_524 : decode cL_law 524 = .ok (.invokevirtual 57, 3) := by decide +kernel
theorem dL_law_527 : decode cL_law 527 = .ok (.aload_n 2, 1) := by decide +kernel
theorem dL_law_528 : decode cL_law 528 = .ok (.aload_n 0, 1) := by decide +kernel
theorem dL_law_529 : decode cL_law 529 = .ok (.iload_n 3, 1) := by decide +kernel
theorem dL_law_530 : decode cL_law 530 = .ok (.iconst 1, 1) := by decide +kernel
theorem dL_law_531 : decode cL_law 531 = .ok (.iadd, 1) := by decide +kernel
theorem dL_law_532 : decode cL_law 532 = .ok (.iaload, 1) := by decide +kernel
theorem dL_law_533 : decode cL_law 533 = .ok (.aload_n 0, 1) := by decide +kernel
theorem dL_law_534 : decode cL_law 534 = .ok (.iload_n 3, 1) := by decide +kernel
theorem dL_law_535 : decode cL_law 535 = .ok (.iconst 2, 1) := by decide +kernel
theorem dL_law_536 : decode cL_law 536 = .ok (.iadd, 1) := by decide +kernel
theorem dL_law_537 : decode cL_law 537 = .ok (.iaload, 1) := by decide +kernel
theorem dL_law_538 : decode cL_law 538 = .ok (.aload_n 0, 1) := by decide +kernel
theorem dL_law_539 : decode cL_law 539 = .ok (.iload_n 3, 1) := by decide +kernel
theorem dL_law_540 : decode cL_law 540 = .ok (.iconst 3, 1) := by decide +kernel
theorem dL_law_541 : decode cL_law 541 = .ok (.iadd, 1) := by decide +kernel
theorem dL_law_542 : decode cL_law 542 = .ok (.iaload, 1) := by decide +kernel
theorem dL_law_543 : decode cL_law 543 = .ok (.invokevirtual 60, 3) := by decide +kernel
theorem dL_law_546 : decode cL_law 546 = .ok (.if_icmp .eq 157, 3) := by decide +kernel
theorem dL_law_549 : decode cL_law 549 = .ok (.iconst 0, 1) := by decide +kernel
theorem dL_law_550 : decode cL_law 550 = .ok (.ireturn, 1) := by decide +kernel
theorem dL_law_551 : decode cL_law 551 = .ok (.aload_n 1, 1) := by decide +kernel
theorem dL_law_552 : decode cL_law 552 = .ok (.aload_n 0, 1) := by decide +kernel
theorem dL_law_553 : decode cL_law 553 = .ok (.iload_n 3, 1) := by decide +kernel
theorem dL_law_554 : decode cL_law 554 = .ok (.iconst 1, 1) := by decide +kernel
theorem dL_law_555 : decode cL_law 555 = .ok (.iadd, 1) := by decide +kernel
theorem dL_law_556 : decode cL_law 556 = .ok (.iaload, 1) := by decide +kernel
theorem dL_law_557 : decode cL_law 557 = .ok (.aload_n 0, 1) := by decide +kernel
theorem dL_law_558 : decode cL_law 558 = .ok (.iload_n 3, 1) := by decide +kernel
theorem dL_law_559 : decode cL_law 559 = .ok (.iconst 2, 1) := by decide +kernel
theorem dL_law_560 : decode cL_law 560 = .ok (.iadd, 1) := by decide +kernel
theorem dL_law_561 : decode cL_law 561 = .ok (.iaload, 1) := by decide +kernel
theorem dL_law_562 : decode cL_law 562 = .ok (.aload_n 0, 1) := by decide +kernel
theorem dL_law_563 : decode cL_law 563 = .ok (.iload_n 3, 1) := by decide +kernel
theorem dL_law_564 : decode cL_law 564 = .ok (.iconst 3, 1) := by decide +kernel
theorem dL_law_565 : decode cL_law 565 = .ok (.iadd, 1) := by decide +kernel
theorem dL_law_566 : decode cL_law 566 = .ok (.iaload, 1) := by decide +kernel
theorem dL_law_567 : decode cL_law 567 = .ok (.aload_n 0, 1) := by decide +kernel
theorem dL_law_568 : decode cL_law 568 = .ok (.iload_n 3, 1) := by decide +kernel
theorem dL_law_569 : decode cL_law 569 = .ok (.iconst 4, 1) := by decide +kernel
theorem dL_law_570 : decode cL_law 570 = .ok (.iadd, 1) := by decide +kernel
theorem dL_law_571 : decode cL_law 571 = .ok (.iaload, 1) := by decide +kernel
theorem dL_law_572 : decode cL_law 572 = .ok (.invokevirtual 61, 3) := by decide +kernel
theorem dL_law_575 : decode cL_law 575 = .ok (.aload_n 2, 1) := by decide +kernel
theorem dL_law_576 : decode cL_law 576 = .ok (.aload_n 0, 1) := by decide +kernel
theorem dL_law_577 : decode cL_law 577 = .ok (.iload_n 3, 1) := by decide +kernel
theorem dL_law_578 : decode cL_law 578 = .ok (.iconst 1, 1) := by decide +kernel
theorem dL_law_579 : decode cL_law 579 = .ok (.iadd, 1) := by decide +kernel
theorem dL_law_580 : decode cL_law 580 = .ok (.iaload, 1) := by decide +kernel
theorem dL_law_581 : decode cL_law 581 = .ok (.aload_n 0, 1) := by decide +kernel
theorem dL_law_582 : decode cL_law 582 = .ok (.iload_n 3, 1) := by decide +kernel
theorem dL_law_583 : decode cL_law 583 = .ok (.iconst 2, 1) := by decide +kernel
theorem dL_law_584 : decode cL_law 584 = .ok (.iadd, 1) := by decide +kernel
theorem dL_law_585 : decode cL_law 585 = .ok (.iaload, 1) := by decide +kernel
theorem dL_law_586 : decode cL_law 586 = .ok (.aload_n 0, 1) := by decide +kernel
theorem dL_law_587 : decode cL_law 587 = .ok (.iload_n 3, 1) := by decide +kernel
theorem dL_law_588 : decode cL_law 588 = .ok (.iconst 3, 1) := by decide +kernel
theorem dL_law_589 : decode cL_law 589 = .ok (.iadd, 1) := by decide +kernel
theorem dL_law_590 : decode cL_law 590 = .ok (.iaload, 1) := by decide +kernel
theorem dL_law_591 : decode cL_law 591 = .ok (.aload_n 0, 1) := by decide +kernel
theorem dL_law_592 : decode cL_law 592 = .ok (.iload_n 3, 1) := by decide +kernel
theorem dL_law_593 : decode cL_law 593 = .ok (.iconst 4, 1) := by decide +kernel
theorem dL_law_594 : decode cL_law 594 = .ok (.iadd, 1) := by decide +kernel
theorem dL_law_595 : decode cL_law 595 = .ok (.iaload, 1) := by decide +kernel
theorem dL_law_596 : decode cL_law 596 = .ok (.invokevirtual 65, 3) := by decide +kernel
theorem dL_law_599 : decode cL_law 599 = .ok (.if_icmp .eq 104, 3) := by decide +kernel
theorem dL_law_602 : decode cL_law 602 = .ok (.iconst 0, 1) := by decide +kernel
theorem dL_law_603 : decode cL_law 603 = .ok (.ireturn, 1) := by decide +kernel
theorem dL_law_604 : decode cL_law 604 = .ok (.aload_n 1, 1) := by decide +kernel
theorem dL_law_605 : decode cL_law 605 = .ok (.aload_n 0, 1) := by decide +kernel
theorem dL_law_606 : decode cL_law 606 = .ok (.iload_n 3, 1) := by decide +kernel
theorem dL_law_607 : decode cL_law 607 = .ok (.iconst 1, 1) := by decide +kernel
theorem dL_law_608 : decode cL_law 608 = .ok (.iadd, 1) := by decide +kernel
theorem dL_law_609 : decode cL_law 609 = .ok (.iaload, 1) := by decide +kernel
theorem dL_law_610 : decode cL_law 610 = .ok (.aload_n 0, 1) := by decide +kernel
theorem dL_law_611 : decode cL_law 611 = .ok (.iload_n 3, 1) := by decide +kernel
theorem dL_law_612 : decode cL_law 612 = .ok (.iconst 2, 1) := by decide +kernel
theorem dL_law_613 : decode cL_law 613 = .ok (.iadd, 1) := by decide +kernel
theorem dL_law_614 : decode cL_law 614 = .ok (.iaload, 1) := by decide +kernel
theorem dL_law_615 : decode cL_law 615 = .ok (.aload_n 0, 1) := by decide +kernel
theorem dL_law_616 : decode cL_law 616 = .ok (.iload_n 3, 1) := by decide +kernel
theorem dL_law_617 : decode cL_law 617 = .ok (.iconst 3, 1) := by decide +kernel
theorem dL_law_618 : decode cL_law 618 = .ok (.iadd, 1) := by decide +kernel
theorem dL_law_619 : decode cL_law 619 = .ok (.iaload, 1) := by decide +kernel
theorem dL_law_620 : decode cL_law 620 = .ok (.invokevirtual 66, 3) := by decide +kernel
theorem dL_law_623 : decode cL_law 623 = .ok (.aload_n 2, 1) := by decide +kernel
theorem dL_law_624 : decode cL_law 624 = .ok (.aload_n 0, 1) := by decide +kernel
theorem dL_law_625 : decode cL_law 625 = .ok (.iload_n 3, 1) := by decide +kernel
theorem dL_law_626 : decode cL_law 626 = .ok (.iconst 1, 1) := by decide +kernel
theorem dL_law_627 : decode cL_law 627 = .ok (.iadd, 1) := by decide +kernel
theorem dL_law_628 : decode cL_law 628 = .ok (.iaload, 1) := by decide +kernel
theorem dL_law_629 : decode cL_law 629 = .ok (.aload_n 0, 1) := by decide +kernel
theorem dL_law_630 : decode cL_law 630 = .ok (.iload_n 3, 1) := by decide +kernel
theorem dL_law_631 : decode cL_law 631 = .ok (.iconst 2, 1) := by decide +kernel
theorem dL_law_632 : decode cL_law 632 = .ok (.iadd, 1) := by decide +kernel
theorem dL_law_633 : decode cL_law 633 = .ok (.iaload, 1) := by decide +kernel
theorem dL_law_634 : decode cL_law 634 = .ok (.aload_n 0, 1) := by decide +kernel
theorem dL_law_635 : decode cL_law 635 = .ok (.iload_n 3, 1) := by decide +kernel
theorem dL_law_636 : decode cL_law 636 = .ok (.iconst 3, 1) := by decide +kernel
theorem dL_law_637 : decode cL_law 637 = .ok (.iadd, 1) := by decide +kernel
theorem dL_law_638 : decode cL_law 638 = .ok (.iaload, 1) := by decide +kernel
theorem dL_law_639 : decode cL_law 639 = .ok (.invokevirtual 69, 3) := by decide +kernel
theorem dL_law_642 : decode cL_law 642 = .ok (.if_icmp .eq 61, 3) := by decide +kernel
theorem dL_law_645 : decode cL_law 645 = .ok (.iconst 0, 1) := by decide +kernel
theorem dL_law_646 : decode cL_law 646 = .ok (.ireturn, 1) := by decide +kernel
theorem dL_law_647 : decode cL_law 647 = .ok (.aload_n 1, 1) := by decide +kernel
theorem dL_law_648 : decode cL_law 648 = .ok (.aload_n 0, 1) := by decide +kernel
theorem dL_law_649 : decode cL_law 649 = .ok (.iload_n 3, 1) := by decide +kernel
theorem dL_law_650 : decode cL_law 650 = .ok (.iconst 1, 1) := by decide +kernel
theorem dL_law_651 : decode cL_law 651 = .ok (.iadd, 1) := by decide +kernel
theorem dL_law_652 : decode cL_law 652 = .ok (.iaload, 1) := by decide +kernel
theorem dL_law_653 : decode cL_law 653 = .ok (.aload_n 0, 1) := by decide +kernel
theorem dL_law_654 : decode cL_law 654 = .ok (.iload_n 3, 1) := by decide +kernel
theorem dL_law_655 : decode cL_law 655 = .ok (.iconst 2, 1) := by decide +kernel
theorem dL_law_656 : decode cL_law 656 = .ok (.iadd, 1) := by decide +kernel
theorem dL_law_657 : decode cL_law 657 = .ok (.iaload, 1) := by decide +kernel
theorem dL_law_658 : decode cL_law 658 = .ok (.invokevirtual 70, 3) := by decide +kernel
theorem dL_law_661 : decode cL_law 661 = .ok (.aload_n 2, 1) := by decide +kernel
theorem dL_law_662 : decode cL_law 662 = .ok (.aload_n 0, 1) := by decide +kernel
theorem dL_law_663 : decode cL_law 663 = .ok (.iload_n 3, 1) := by decide +kernel
theorem dL_law_664 : decode cL_law 664 = .ok (.iconst 1, 1) := by decide +kernel
theorem dL_law_665 : decode cL_law 665 = .ok (.iadd, 1) := by decide +kernel
theorem dL_law_666 : decode cL_law 666 = .ok (.iaload, 1) := by decide +kernel
theorem dL_law_667 : decode cL_law 667 = .ok (.aload_n 0, 1) := by decide +kernel
theorem dL_law_668 : decode cL_law 668 = .ok (.iload_n 3, 1) := by decide +kernel
theorem dL_law_669 : decode cL_law 669 = .ok (.iconst 2, 1) := by decide +kernel
theorem dL_law_670 : decode cL_law 670 = .ok (.iadd, 1) := by decide +kernel
theorem dL_law_671 : decode cL_law 671 = .ok (.iaload, 1) := by decide +kernel
theorem dL_law_672 : decode cL_law 672 = .ok (.invokevirtual 74, 3) := by decide +kernel
theorem dL_law_675 : decode cL_law 675 = .ok (.if_icmp .eq 28, 3) := by decide +kernel
theorem dL_law_678 : decode cL_law 678 = .ok (.iconst 0, 1) := by decide +kernel
theorem dL_law_679 : decode cL_law 679 = .ok (.ireturn, 1) := by decide +kernel
theorem dL_law_680 : decode cL_law 680 = .ok (.aload_n 1, 1) := by decide +kernel
theorem dL_law_681 : decode cL_law 681 = .ok (.aload_n 0, 1) := by decide +kernel
theorem dL_law_682 : decode cL_law 682 = .ok (.iload_n 3, 1) := by decide +kernel
theorem dL_law_683 : decode cL_law 683 = .ok (.iconst 1, 1) := by decide +kernel
theorem dL_law_684 : decode cL_law 684 = .ok (.iadd, 1) := by decide +kernel
theorem dL_law_685 : decode cL_law 685 = .ok (.iaload, 1) := by decide +kernel
theorem dL_law_686 : decode cL_law 686 = .ok (.invokevirtual 75, 3) := by decide +kernel
theorem dL_law_689 : decode cL_law 689 = .ok (.aload_n 2, 1) := by decide +kernel
theorem dL_law_690 : decode cL_law 690 = .ok (.aload_n 0, 1) := by decide +kernel
theorem dL_law_691 : decode cL_law 691 = .ok (.iload_n 3, 1) := by decide +kernel
theorem dL_law_692 : decode cL_law 692 = .ok (.iconst 1, 1) := by decide +kernel
theorem dL_law_693 : decode cL_law 693 = .ok (.iadd, 1) := by decide +kernel
theorem dL_law_694 : decode cL_law 694 = .ok (.iaload, 1) := by decide +kernel
theorem dL_law_695 : decode cL_law 695 = .ok (.invokevirtual 79, 3) := by decide +kernel
theorem dL_law_698 : decode cL_law 698 = .ok (.if_icmp .eq 5, 3) := by decide +kernel
theorem dL_law_701 : decode cL_law 701 = .ok (.iconst 0, 1) := by decide +kernel
theorem dL_law_702 : decode cL_law 702 = .ok (.ireturn, 1) := by decide +kernel
theorem dL_law_703 : decode cL_law 703 = .ok (.iinc 3 5, 3) := by decide +kernel
theorem dL_law_706 : decode cL_law 706 = .ok (.goto (-688), 3) := by decide +kernel
theorem dL_law_709 : decode cL_law 709 = .ok (.iconst 1, 1) := by decide +kernel
theorem dL_law_710 : decode cL_law 710 = .ok (.ireturn, 1) := by decide +kernel
end
section
set_option maxRecDepth 100000
/-! a layer over the kit: pictures of cells instead of heaps, locals as a list of values -/
abbrev vwCl : List vw_C := [(RX0, TX0, 8), (RX1, TX1, 2)]
/-- a method's room at call depth d -/
abbrev rD (d : Nat) : Room := { frames := d, cells := 0, slots := 0, locals := 31 * d }
/-- the locals from place 0 on -/
def lp (ls : Array Slot) (nL : Nat) (lv : List Value) : Prop := ls.size = nL ∧ lv_wf ls ∧ ∀ (i : Nat) (v : Value), lv[i]? = some v → v.category = 1 ∧ ls[i]? = some (.val v)
theorem lp.has {ls : Array Slot} {nL : Nat} {lv : List Value} (h : lp ls nL lv) : lv_has ls nL (lv.zipIdx.map fun q => (q.2, q.1)) := by
  refine ⟨h.1, h.2.1, fun q hq => ?_⟩
  obtain ⟨r, hr, rfl⟩ := List.mem_map.mp hq
  exact (h.2.2 r.2 r.1 (List.mk_mem_zipIdx_iff_getElem?.mp hr)).2
theorem lp.get {ls : Array Slot} {nL : Nat} {lv : List Value} (h : lp ls nL lv) {i : Nat} {v : Value} (hi : lv[i]? = some v) : ls[i]? = some (.val v) := (h.2.2 i v hi).2
theorem lp_setget {lv : List Value} {i j : Nat} {v w : Value} (hi : i ≤ lv.length) (hj : (lv.take i ++ v :: lv.drop (i + 1))[j]? = some w) : (j = i ∧ w = v) ∨ (j ≠ i ∧ lv[j]? = some w) := by
  have hlen : (lv.take i).length = i := by rw [List.length_take]; omega
  rcases Nat.lt_trichotomy j i with h | h | h
  · right
    rw [List.getElem?_append_left (by omega), List.getElem?_take] at hj
    simp only [h, if_true] at hj
    exact ⟨by omega, hj⟩
  · left
    subst h
    rw [List.getElem?_append_right (by omega), hlen, Nat.sub_self] at hj
    exact ⟨rfl, (Option.some.inj hj).symm⟩
  · right
    rw [List.getElem?_append_right (by omega), hlen] at hj
    obtain ⟨d, hd⟩ : ∃ d, j - i = d + 1 := ⟨j - i - 1, by omega⟩
    rw [hd, List.getElem?_cons_succ, List.getElem?_drop] at hj
    exact ⟨by omega, by rw [show j = i + 1 + d by omega]; exact hj⟩
theorem lp.store {ls ls' : Array Slot} {nL i : Nat} {lv lv' : List Value} {v : Value} (h : lp ls nL lv) (hv : v.category = 1) (hi : i ≤ lv.length) (hl : lv' = lv.take i ++ v :: lv.drop (i + 1))
    (h' : lv_has ls' nL ((i, v) :: (lv.zipIdx.map fun q => (q.2, q.1)).filter (fun q => !(q.1 == i) && !(q.1 + 1 == i && q.2.category == 2)))) : lp ls' nL lv' := by
  refine ⟨h'.1, h'.2.1, fun j w hj => ?_⟩
  subst hl
  rcases lp_setget hi hj with ⟨rfl, rfl⟩ | ⟨hne, hj⟩
  · exact ⟨hv, h'.2.2 (j, w) List.mem_cons_self⟩
  · have hc := (h.2.2 j w hj).1
    refine ⟨hc, h'.2.2 (j, w) (List.mem_cons_of_mem _ (List.mem_filter.mpr ⟨List.mem_map.mpr ⟨(w, j), List.mk_mem_zipIdx_iff_getElem?.mpr hj, rfl⟩, ?_⟩))⟩
    simp [hne, hc]
theorem lp_args : ∀ (vs : List Value) (k i : Nat) (v : Value), (∀ v ∈ vs, v.category = 1) → vs[i]? = some v → (k + i, v) ∈ lv_args k vs
  | [], _, _, _, _, h => by simp at h
  | a :: vs, k, 0, v, _, h => by
    rw [List.getElem?_cons_zero] at h
    cases h
    exact List.mem_cons_self
  | a :: vs, k, i + 1, v, hc, h => by
    rw [List.getElem?_cons_succ] at h
    have ha : a.category = 1 := hc a List.mem_cons_self
    have h2 := lp_args vs (k + 1) i v (fun v hv => hc v (List.mem_cons_of_mem _ hv)) h
    refine List.mem_cons_of_mem _ ?_
    simp only [ha]
    rw [show k + (i + 1) = k + 1 + i by omega]
    exact h2
theorem lp.entry {vs : List Value} {n : Nat} (h : (lg_sl vs).length ≤ n) (hc : ∀ v ∈ vs, v.category = 1) : lp ((lg_sl vs ++ List.replicate (n - (lg_sl vs).length) Slot.unset).toArray) n vs := by
  have h1 := lv_entry vs h
  refine ⟨h1.1, h1.2.1, fun i v hi => ⟨hc v (List.mem_of_getElem? hi), ?_⟩⟩
  have h2 := lp_args vs 0 i v hc hi
  rw [Nat.zero_add] at h2
  exact h1.2.2 (i, v) h2
/-- the judgement: from every heap that holds the picture ws, with the locals lv and the stack st, at pc -/
def XW (p : Program) (l : Launch) (e : Env) (R : Room) (s : State) (m : MethodId) (args : Array Value) (below : List Frame) (meth : Method) (c : Code) (cells slots : Nat) (Q : State → Prop) (D : va_G) (A : Nat → Prop) (nL : Nat) (ws : va_W) (pc : Nat) (lv : List Value) (st : List Value) : Prop :=
  ∀ (H : Heap) (locs : List Loc) (ls : Array Slot), va_P D vwCl ws H → va_D A ws → va_S A s.heap H locs → lp ls nL lv → W p l e R s m args below meth c H locs cells slots Q (F0 m pc ls st)
/-- what stays all through a method -/
def XC (p : Program) (R : Room) (s : State) (m : MethodId) (args : Array Value) (c : Code) (cells slots : Nat) (D : va_G) (A : Nat → Prop) (tys : List (ClassId × FieldType)) (nL : Nat) (cc : ByteArray) (own : String) (dR : Nat) : Prop :=
  p.tables.exec = Jvm.exec ∧ c.code = cc ∧ c.maxLocals = nL ∧ s.vm.findClass own = some m.cls ∧ (∀ w ∈ lw_all, w.before args s = true) ∧ va_K D vwCl tys s ∧ (∀ q : Nat, s.heap.size ≤ q → A q) ∧ (dR ≤ R.frames ∧ 31 * dR ≤ R.locals) ∧ (cells ≤ R.cells ∧ slots ≤ R.slots)
/-- the world behind a contract -/
abbrev XB {S : Type} (D : va_G) (tys : List (ClassId × FieldType)) (A : Nat → Prop) (w' : S → va_W) : S → State → Prop := fun u t => va_P D vwCl (w' u) t.heap ∧ va_K D vwCl tys t ∧ va_D A (w' u)
abbrev XP (D : va_G) (tys : List (ClassId × FieldType)) (ws : va_W) (sz : Nat) (av : List Value) : Array Value → State → Prop := va_Pc av (fun U => U.heap.size = sz ∧ va_P D vwCl ws U.heap ∧ va_K D vwCl tys U ∧ va_D (fun _ => True) ws)
/-- the contract of a method that answers an int (or a boolean) and makes no cell: from the picture ws to the picture w' u, the answer r with post r u -/
def CtI {S : Type} (l : Launch) (y : MethodName) (b : ByteArray) (nL : Nat) (rt : Option FieldType) (d : Nat) (D : va_G) (tys : List (ClassId × FieldType)) (av : List Value) (ws : va_W) (post : Int32 → S → Prop) (w' : S → va_W) : Prop :=
  ∀ sz : Nat, Met l y (ws_ y b nL rt) (rD d) (XP D tys ws sz av) (va_Qi post (XB D tys (va_A ws sz) w') (va_A ws sz)) 0 0 (va_A ws sz)
/-- .. of a void method -/
def CtV {S : Type} (l : Launch) (y : MethodName) (b : ByteArray) (nL : Nat) (d : Nat) (D : va_G) (tys : List (ClassId × FieldType)) (av : List Value) (ws : va_W) (post : S → Prop) (w' : S → va_W) : Prop :=
  ∀ sz : Nat, Met l y (ws_ y b nL none) (rD d) (XP D tys ws sz av) (va_Qv post (XB D tys (va_A ws sz) w') (va_A ws sz)) 0 0 (va_A ws sz)
abbrev XQi {S : Type} (below : List Frame) (args : Array Value) (s : State) (D : va_G) (tys : List (ClassId × FieldType)) (A : Nat → Prop) (post : Int32 → S → Prop) (w' : S → va_W) : State → Prop := MQ below (va_Qi post (XB D tys A w') A) args s 0 0 A
abbrev XQv {S : Type} (below : List Frame) (args : Array Value) (s : State) (D : va_G) (tys : List (ClassId × FieldType)) (A : Nat → Prop) (post : S → Prop) (w' : S → va_W) : State → Prop := MQ below (va_Qv post (XB D tys A w') A) args s 0 0 A
theorem x_enterI {S : Type} {l : Launch} {y : MethodName} {b : ByteArray} {nL d : Nat} {rt : Option FieldType} {D : va_G} {tys : List (ClassId × FieldType)} {av : List Value} {ws : va_W} {post : Int32 → S → Prop} {w' : S → va_W} {own : String}
    (hy : plainName y.cls = true) (ho : y.cls = own) (hav : (lg_sl av).length ≤ nL) (hcat : ∀ v ∈ av, v.category = 1)
    (body : ∀ (p : Program) (e : Env) (s : State) (m : MethodId) (args : Array Value) (below : List Frame) (meth : Method) (c : Code) (A : Nat → Prop), XC p (rD d) s m args c 0 0 D A tys nL b own d → meth.sig.returnType = rt → meth.locks = false →
      XW p l e (rD d) s m args below meth c 0 0 (XQi below args s D tys A post w') D A nL ws 0 av []) : CtI l y b nL rt d D tys av ws post w' := by
  intro sz
  refine Met.ofW (cc := b) (maxL := nL) (ret := rt) hy rfl ?_
  intro p e s m args below meth c s₁ B hml hv
  obtain ⟨rfl, hsz, hP, hK, hD0⟩ := hv
  have hts := atoms_spec (ws := ws_ y b nL rt) B.pre
  have hts : ∀ w ∈ lw_all, w.before _ s = true := fun w h => hts w (List.mem_cons_of_mem _ h)
  have hown : s.vm.findClass own = some m.cls := by rw [← ho]; exact findClass_of_methodNamed B.named
  subst hsz
  have hD := hD0.self (sz := s.heap.size)
  have hA : ∀ q : Nat, s.heap.size ≤ q → va_A ws s.heap.size q := fun q h => Or.inr h
  rw [lg_entry_eq]
  exact body p e s m av.toArray below meth c (va_A ws s.heap.size) ⟨B.exec, B.bytes, hml, hown, hts, hK, hA, ⟨Nat.le_refl _, Nat.le_refl _⟩, ⟨Nat.zero_le _, Nat.zero_le _⟩⟩ B.returns B.notSynchronized s.heap [] _ hP hD va_S.rf (lp.entry hav hcat)
theorem x_enterV {S : Type} {l : Launch} {y : MethodName} {b : ByteArray} {nL d : Nat} {D : va_G} {tys : List (ClassId × FieldType)} {av : List Value} {ws : va_W} {post : S → Prop} {w' : S → va_W} {own : String}
    (hy : plainName y.cls = true) (ho : y.cls = own) (hav : (lg_sl av).length ≤ nL) (hcat : ∀ v ∈ av, v.category = 1)
    (body : ∀ (p : Program) (e : Env) (s : State) (m : MethodId) (args : Array Value) (below : List Frame) (meth : Method) (c : Code) (A : Nat → Prop), XC p (rD d) s m args c 0 0 D A tys nL b own d → meth.sig.returnType = none → meth.locks = false →
      XW p l e (rD d) s m args below meth c 0 0 (XQv below args s D tys A post w') D A nL ws 0 av []) : CtV l y b nL d D tys av ws post w' := by
  intro sz
  refine Met.ofW (cc := b) (maxL := nL) (ret := none) hy rfl ?_
  intro p e s m args below meth c s₁ B hml hv
  obtain ⟨rfl, hsz, hP, hK, hD0⟩ := hv
  have hts := atoms_spec (ws := ws_ y b nL none) B.pre
  have hts : ∀ w ∈ lw_all, w.before _ s = true := fun w h => hts w (List.mem_cons_of_mem _ h)
  have hown : s.vm.findClass own = some m.cls := by rw [← ho]; exact findClass_of_methodNamed B.named
  subst hsz
  have hD := hD0.self (sz := s.heap.size)
  have hA : ∀ q : Nat, s.heap.size ≤ q → va_A ws s.heap.size q := fun q h => Or.inr h
  rw [lg_entry_eq]
  exact body p e s m av.toArray below meth c (va_A ws s.heap.size) ⟨B.exec, B.bytes, hml, hown, hts, hK, hA, ⟨Nat.le_refl _, Nat.le_refl _⟩, ⟨Nat.zero_le _, Nat.zero_le _⟩⟩ B.returns B.notSynchronized s.heap [] _ hP hD va_S.rf (lp.entry hav hcat)
section XK
variable {p : Program} {l : Launch} {e : Env} {R : Room} {s : State} {m : MethodId} {args : Array Value} {below : List Frame} {meth : Method} {c : Code} {cells slots : Nat} {Q : State → Prop}
variable {cc : ByteArray} {pc nL dR : Nat} {st : List Value} {lv : List Value} {D : va_G} {A : Nat → Prop} {tys : List (ClassId × FieldType)} {ws : va_W} {own : String}
theorem x_iload_n (K : XC p R s m args c cells slots D A tys nL cc own dR) {k : Fin 4} {x : Int32} (hdg : decode cc pc = .ok (.iload_n k, 1)) (hl : lv[(k : Nat)]? = some (.int x)) (kk : XW p l e R s m args below meth c cells slots Q D A nL ws (pc + 1) lv (.int x :: st)) : XW p l e R s m args below meth c cells slots Q D A nL ws pc lv st :=
  fun H locs ls hP hD hS h => lv_iload_n K.1 K.2.1 hdg rfl (h.get hl) (kk H locs ls hP hD hS h)
theorem x_iload (K : XC p R s m args c cells slots D A tys nL cc own dR) {i : Nat} {x : Int32} (hdg : decode cc pc = .ok (.iload i, 2)) (hl : lv[i]? = some (.int x)) (kk : XW p l e R s m args below meth c cells slots Q D A nL ws (pc + 2) lv (.int x :: st)) : XW p l e R s m args below meth c cells slots Q D A nL ws pc lv st :=
  fun H locs ls hP hD hS h => lv_iload K.1 K.2.1 hdg (h.get hl) (kk H locs ls hP hD hS h)
theorem x_aload_n (K : XC p R s m args c cells slots D A tys nL cc own dR) {k : Fin 4} {x : Nat} (hdg : decode cc pc = .ok (.aload_n k, 1)) (hl : lv[(k : Nat)]? = some (.ref x)) (kk : XW p l e R s m args below meth c cells slots Q D A nL ws (pc + 1) lv (.ref x :: st)) : XW p l e R s m args below meth c cells slots Q D A nL ws pc lv st :=
  fun H locs ls hP hD hS h => lv_aload_n K.1 K.2.1 hdg rfl (h.get hl) (kk H locs ls hP hD hS h)
theorem x_istore_n (K : XC p R s m args c cells slots D A tys nL cc own dR) {k : Fin 4} {x : Int32} (lv' : List Value) (hdg : decode cc pc = .ok (.istore_n k, 1)) (hn : (k : Nat) < nL) (hi : (k : Nat) ≤ lv.length) (hl : lv' = lv.take (k : Nat) ++ .int x :: lv.drop ((k : Nat) + 1)) (kk : XW p l e R s m args below meth c cells slots Q D A nL ws (pc + 1) lv' st) : XW p l e R s m args below meth c cells slots Q D A nL ws pc lv (.int x :: st) :=
  fun H locs ls hP hD hS h => lv_istore_n K.1 K.2.1 hdg rfl h.has hn rfl (fun ls' h' => kk H locs ls' hP hD hS (h.store rfl hi hl h'))
theorem x_istore (K : XC p R s m args c cells slots D A tys nL cc own dR) {k : Nat} {x : Int32} (lv' : List Value) (hdg : decode cc pc = .ok (.istore k, 2)) (hn : k < nL) (hi : k ≤ lv.length) (hl : lv' = lv.take k ++ .int x :: lv.drop (k + 1)) (kk : XW p l e R s m args below meth c cells slots Q D A nL ws (pc + 2) lv' st) : XW p l e R s m args below meth c cells slots Q D A nL ws pc lv (.int x :: st) :=
  fun H locs ls hP hD hS h => lv_istore K.1 K.2.1 hdg h.has hn rfl (fun ls' h' => kk H locs ls' hP hD hS (h.store rfl hi hl h'))
theorem x_astore_n (K : XC p R s m args c cells slots D A tys nL cc own dR) {k : Fin 4} {x : Nat} (lv' : List Value) (hdg : decode cc pc = .ok (.astore_n k, 1)) (hn : (k : Nat) < nL) (hi : (k : Nat) ≤ lv.length) (hl : lv' = lv.take (k : Nat) ++ .ref x :: lv.drop ((k : Nat) + 1)) (kk : XW p l e R s m args below meth c cells slots Q D A nL ws (pc + 1) lv' st) : XW p l e R s m args below meth c cells slots Q D A nL ws pc lv (.ref x :: st) :=
  fun H locs ls hP hD hS h => lv_astore_n K.1 K.2.1 hdg rfl h.has hn rfl (fun ls' h' => kk H locs ls' hP hD hS (h.store rfl hi hl h'))
theorem lp.idx {ls : Array Slot} {lv : List Value} {i : Nat} {v : Value} (h : lp ls nL lv) (hk : lv[i]? = some v) : ∃ k : Nat, (lv.zipIdx.map fun q => (q.2, q.1))[k]? = some (i, v) := List.getElem?_of_mem (List.mem_map.mpr ⟨(v, i), List.mk_mem_zipIdx_iff_getElem?.mpr hk, rfl⟩)
theorem x_iinc (K : XC p R s m args c cells slots D A tys nL cc own dR) {i : Nat} {n : Int} {x : Int32} (v : Int32) (lv' : List Value) (hdg : decode cc pc = .ok (.iinc i n, 3)) (hk : lv[i]? = some (.int x)) (hv : x + Int32.ofInt n = v) (hn : i < nL) (hi : i ≤ lv.length) (hl : lv' = lv.take i ++ .int v :: lv.drop (i + 1)) (kk : XW p l e R s m args below meth c cells slots Q D A nL ws (pc + 3) lv' st) : XW p l e R s m args below meth c cells slots Q D A nL ws pc lv st := by
  intro H locs ls hP hD hS h
  obtain ⟨k, hk'⟩ := h.idx hk
  exact lv_iinc K.1 K.2.1 hdg h.has hk' hv hn rfl (fun ls' h' => kk H locs ls' hP hD hS (h.store rfl hi hl h'))
/-- i++ on a natural number -/
theorem x_iinc1 (K : XC p R s m args c cells slots D A tys nL cc own dR) {i x : Nat} (lv' : List Value) (hdg : decode cc pc = .ok (.iinc i 1, 3)) (hk : lv[i]? = some (.int (nI x))) (hn : i < nL) (hi : i ≤ lv.length) (hl : lv' = lv.take i ++ .int (nI (x + 1)) :: lv.drop (i + 1)) (kk : XW p l e R s m args below meth c cells slots Q D A nL ws (pc + 3) lv' st) : XW p l e R s m args below meth c cells slots Q D A nL ws pc lv st :=
  x_iinc K (nI (x + 1)) lv' hdg hk (by rw [← nI_1]; rfl) hn hi hl kk
/-- fewer locals -/
theorem x_drop (lv' : List Value) (n : Nat) (hl : lv' = lv.take n) (kk : XW p l e R s m args below meth c cells slots Q D A nL ws pc lv' st) : XW p l e R s m args below meth c cells slots Q D A nL ws pc lv st :=
  fun H locs ls hP hD hS h => kk H locs ls hP hD hS ⟨h.1, h.2.1, fun i v hi => h.2.2 i v (by
    rw [hl, List.getElem?_take] at hi
    split at hi
    · exact hi
    · cases hi)⟩
theorem x_top {x y : Int32} (h : x = y) (kk : XW p l e R s m args below meth c cells slots Q D A nL ws pc lv (.int y :: st)) : XW p l e R s m args below meth c cells slots Q D A nL ws pc lv (.int x :: st) := h ▸ kk
theorem x_eqW {ws' : va_W} (h : ws = ws') (kk : XW p l e R s m args below meth c cells slots Q D A nL ws' pc lv st) : XW p l e R s m args below meth c cells slots Q D A nL ws pc lv st := h ▸ kk
theorem x_iconst (K : XC p R s m args c cells slots D A tys nL cc own dR) {n : Int} (v : Int32) (hdg : decode cc pc = .ok (.iconst n, 1)) (hv : Int32.ofInt n = v) (kk : XW p l e R s m args below meth c cells slots Q D A nL ws (pc + 1) lv (.int v :: st)) : XW p l e R s m args below meth c cells slots Q D A nL ws pc lv st :=
  fun H locs ls hP hD hS h => lv_iconst K.1 K.2.1 hdg hv (kk H locs ls hP hD hS h)
theorem x_bipush (K : XC p R s m args c cells slots D A tys nL cc own dR) {n : Int} (v : Int32) (hdg : decode cc pc = .ok (.bipush n, 2)) (hv : (Int8.ofInt n).toInt32 = v) (kk : XW p l e R s m args below meth c cells slots Q D A nL ws (pc + 2) lv (.int v :: st)) : XW p l e R s m args below meth c cells slots Q D A nL ws pc lv st :=
  fun H locs ls hP hD hS h => lv_bipush K.1 K.2.1 hdg hv (kk H locs ls hP hD hS h)
theorem x_sipush (K : XC p R s m args c cells slots D A tys nL cc own dR) {n : Int} (v : Int32) (hdg : decode cc pc = .ok (.sipush n, 3)) (hv : (Int16.ofInt n).toInt32 = v) (kk : XW p l e R s m args below meth c cells slots Q D A nL ws (pc + 3) lv (.int v :: st)) : XW p l e R s m args below meth c cells slots Q D A nL ws pc lv st :=
  fun H locs ls hP hD hS h => lv_sipush K.1 K.2.1 hdg hv (kk H locs ls hP hD hS h)
theorem x_iadd (K : XC p R s m args c cells slots D A tys nL cc own dR) {x y : Int32} (hdg : decode cc pc = .ok (.iadd, 1)) (kk : XW p l e R s m args below meth c cells slots Q D A nL ws (pc + 1) lv (.int (x + y) :: st)) : XW p l e R s m args below meth c cells slots Q D A nL ws pc lv (.int y :: .int x :: st) :=
  fun H locs ls hP hD hS h => lv_iadd K.1 K.2.1 hdg (kk H locs ls hP hD hS h)
theorem x_isub (K : XC p R s m args c cells slots D A tys nL cc own dR) {x y : Int32} (hdg : decode cc pc = .ok (.isub, 1)) (kk : XW p l e R s m args below meth c cells slots Q D A nL ws (pc + 1) lv (.int (x - y) :: st)) : XW p l e R s m args below meth c cells slots Q D A nL ws pc lv (.int y :: .int x :: st) :=
  fun H locs ls hP hD hS h => lv_isub K.1 K.2.1 hdg (kk H locs ls hP hD hS h)
theorem x_imul (K : XC p R s m args c cells slots D A tys nL cc own dR) {x y : Int32} (hdg : decode cc pc = .ok (.imul, 1)) (kk : XW p l e R s m args below meth c cells slots Q D A nL ws (pc + 1) lv (.int (x * y) :: st)) : XW p l e R s m args below meth c cells slots Q D A nL ws pc lv (.int y :: .int x :: st) :=
  fun H locs ls hP hD hS h => lv_imul K.1 K.2.1 hdg (kk H locs ls hP hD hS h)
theorem x_iand (K : XC p R s m args c cells slots D A tys nL cc own dR) {x y : Int32} (hdg : decode cc pc = .ok (.iand, 1)) (kk : XW p l e R s m args below meth c cells slots Q D A nL ws (pc + 1) lv (.int (x &&& y) :: st)) : XW p l e R s m args below meth c cells slots Q D A nL ws pc lv (.int y :: .int x :: st) :=
  fun H locs ls hP hD hS h => lv_iand K.1 K.2.1 hdg (kk H locs ls hP hD hS h)
theorem x_ishr (K : XC p R s m args c cells slots D A tys nL cc own dR) {x y : Int32} (hdg : decode cc pc = .ok (.ishr, 1)) (kk : XW p l e R s m args below meth c cells slots Q D A nL ws (pc + 1) lv (.int (x >>> (y &&& 31)) :: st)) : XW p l e R s m args below meth c cells slots Q D A nL ws pc lv (.int y :: .int x :: st) :=
  fun H locs ls hP hD hS h => lv_ishr K.1 K.2.1 hdg (kk H locs ls hP hD hS h)
theorem x_iaddN (K : XC p R s m args c cells slots D A tys nL cc own dR) {x y : Nat} (hdg : decode cc pc = .ok (.iadd, 1)) (kk : XW p l e R s m args below meth c cells slots Q D A nL ws (pc + 1) lv (.int (nI (x + y)) :: st)) : XW p l e R s m args below meth c cells slots Q D A nL ws pc lv (.int (nI y) :: .int (nI x) :: st) :=
  x_iadd K hdg (x_top (nI_add x y) kk)
theorem x_imulN (K : XC p R s m args c cells slots D A tys nL cc own dR) {x y : Nat} (hdg : decode cc pc = .ok (.imul, 1)) (kk : XW p l e R s m args below meth c cells slots Q D A nL ws (pc + 1) lv (.int (nI (x * y)) :: st)) : XW p l e R s m args below meth c cells slots Q D A nL ws pc lv (.int (nI y) :: .int (nI x) :: st) :=
  x_imul K hdg (x_top (pk_mul x y) kk)
theorem x_isubN (K : XC p R s m args c cells slots D A tys nL cc own dR) {x y : Nat} (hdg : decode cc pc = .ok (.isub, 1)) (hle : y ≤ x) (kk : XW p l e R s m args below meth c cells slots Q D A nL ws (pc + 1) lv (.int (nI (x - y)) :: st)) : XW p l e R s m args below meth c cells slots Q D A nL ws pc lv (.int (nI y) :: .int (nI x) :: st) :=
  x_isub K hdg (x_top (pk_sub hle) kk)
theorem x_idivN (K : XC p R s m args c cells slots D A tys nL cc own dR) {x y : Nat} (hdg : decode cc pc = .ok (.idiv, 1)) (hx : x < 2 ^ 31) (h0 : 0 < y) (hy : y < 2 ^ 31) (kk : XW p l e R s m args below meth c cells slots Q D A nL ws (pc + 1) lv (.int (nI (x / y)) :: st)) : XW p l e R s m args below meth c cells slots Q D A nL ws pc lv (.int (nI y) :: .int (nI x) :: st) :=
  fun H locs ls hP hD hS h => lv_idiv K.1 K.2.1 hdg (nI_ne0 h0 hy) (by rw [pk_div hx h0 hy]; exact kk H locs ls hP hD hS h)
theorem x_iremN (K : XC p R s m args c cells slots D A tys nL cc own dR) {x y : Nat} (hdg : decode cc pc = .ok (.irem, 1)) (hx : x < 2 ^ 31) (h0 : 0 < y) (hy : y < 2 ^ 31) (kk : XW p l e R s m args below meth c cells slots Q D A nL ws (pc + 1) lv (.int (nI (x % y)) :: st)) : XW p l e R s m args below meth c cells slots Q D A nL ws pc lv (.int (nI y) :: .int (nI x) :: st) :=
  fun H locs ls hP hD hS h => lv_irem K.1 K.2.1 hdg (nI_ne0 h0 hy) (by rw [pk_rem hx h0 hy]; exact kk H locs ls hP hD hS h)
theorem nI_byte : ∀ n : Nat, n < 128 → (nI n).toInt8.toInt32 = nI n := by
  have h : (List.range 128).all (fun n => decide ((nI n).toInt8.toInt32 = nI n)) = true := by decide +kernel
  intro n hn
  exact of_decide_eq_true (List.all_eq_true.mp h n (List.mem_range.mpr hn))
theorem x_i2bN (K : XC p R s m args c cells slots D A tys nL cc own dR) {n : Nat} (hdg : decode cc pc = .ok (.i2b, 1)) (hn : n < 128) (kk : XW p l e R s m args below meth c cells slots Q D A nL ws (pc + 1) lv (.int (nI n) :: st)) : XW p l e R s m args below meth c cells slots Q D A nL ws pc lv (.int (nI n) :: st) :=
  fun H locs ls hP hD hS h => lv_i2b K.1 K.2.1 hdg (nI_byte n hn) (kk H locs ls hP hD hS h)
theorem x_dup (K : XC p R s m args c cells slots D A tys nL cc own dR) {v : Value} (hdg : decode cc pc = .ok (.dup, 1)) (hv : v.category = 1) (kk : XW p l e R s m args below meth c cells slots Q D A nL ws (pc + 1) lv (v :: v :: st)) : XW p l e R s m args below meth c cells slots Q D A nL ws pc lv (v :: st) :=
  fun H locs ls hP hD hS h => lv_dup K.1 K.2.1 hdg hv (kk H locs ls hP hD hS h)
theorem x_dup2 (K : XC p R s m args c cells slots D A tys nL cc own dR) {v w : Value} (hdg : decode cc pc = .ok (.dup2, 1)) (hv : v.category = 1) (hw : w.category = 1) (kk : XW p l e R s m args below meth c cells slots Q D A nL ws (pc + 1) lv (v :: w :: v :: w :: st)) : XW p l e R s m args below meth c cells slots Q D A nL ws pc lv (v :: w :: st) :=
  fun H locs ls hP hD hS h => lv_dup2_11 K.1 K.2.1 hdg hv hw (kk H locs ls hP hD hS h)
theorem x_pop (K : XC p R s m args c cells slots D A tys nL cc own dR) {v : Value} (hdg : decode cc pc = .ok (.pop, 1)) (hv : v.category = 1) (kk : XW p l e R s m args below meth c cells slots Q D A nL ws (pc + 1) lv st) : XW p l e R s m args below meth c cells slots Q D A nL ws pc lv (v :: st) :=
  fun H locs ls hP hD hS h => lv_pop K.1 K.2.1 hdg hv (kk H locs ls hP hD hS h)
theorem x_goto (K : XC p R s m args c cells slots D A tys nL cc own dR) {off : Int} (tgt : Nat) (hdg : decode cc pc = .ok (.goto off, 3)) (ht : (pc : Int) + off = (tgt : Int)) (kk : XW p l e R s m args below meth c cells slots Q D A nL ws tgt lv st) : XW p l e R s m args below meth c cells slots Q D A nL ws pc lv st :=
  fun H locs ls hP hD hS h => lv_goto K.1 K.2.1 hdg ht (kk H locs ls hP hD hS h)
theorem x_if_eq (K : XC p R s m args c cells slots D A tys nL cc own dR) {x : Int32} {off : Int} (tgt : Nat) (hdg : decode cc pc = .ok (.ifCond .eq off, 3)) (ht : (pc : Int) + off = (tgt : Int)) (kt : x = 0 → XW p l e R s m args below meth c cells slots Q D A nL ws tgt lv st) (kf : ¬ (x = 0) → XW p l e R s m args below meth c cells slots Q D A nL ws (pc + 3) lv st) : XW p l e R s m args below meth c cells slots Q D A nL ws pc lv (.int x :: st) :=
  fun H locs ls hP hD hS h => lv_if_eq K.1 K.2.1 hdg ht (fun q => kt q H locs ls hP hD hS h) (fun q => kf q H locs ls hP hD hS h)
theorem x_if_ne (K : XC p R s m args c cells slots D A tys nL cc own dR) {x : Int32} {off : Int} (tgt : Nat) (hdg : decode cc pc = .ok (.ifCond .ne off, 3)) (ht : (pc : Int) + off = (tgt : Int)) (kt : ¬ x = 0 → XW p l e R s m args below meth c cells slots Q D A nL ws tgt lv st) (kf : x = 0 → XW p l e R s m args below meth c cells slots Q D A nL ws (pc + 3) lv st) : XW p l e R s m args below meth c cells slots Q D A nL ws pc lv (.int x :: st) :=
  fun H locs ls hP hD hS h => lv_if_ne K.1 K.2.1 hdg ht (fun q => kt q H locs ls hP hD hS h) (fun q => kf q H locs ls hP hD hS h)
theorem x_if_lt (K : XC p R s m args c cells slots D A tys nL cc own dR) {x : Int32} {off : Int} (tgt : Nat) (hdg : decode cc pc = .ok (.ifCond .lt off, 3)) (ht : (pc : Int) + off = (tgt : Int)) (kt : x < 0 → XW p l e R s m args below meth c cells slots Q D A nL ws tgt lv st) (kf : ¬ (x < 0) → XW p l e R s m args below meth c cells slots Q D A nL ws (pc + 3) lv st) : XW p l e R s m args below meth c cells slots Q D A nL ws pc lv (.int x :: st) :=
  fun H locs ls hP hD hS h => lv_if_lt K.1 K.2.1 hdg ht (fun q => kt q H locs ls hP hD hS h) (fun q => kf q H locs ls hP hD hS h)
theorem x_if_ge (K : XC p R s m args c cells slots D A tys nL cc own dR) {x : Int32} {off : Int} (tgt : Nat) (hdg : decode cc pc = .ok (.ifCond .ge off, 3)) (ht : (pc : Int) + off = (tgt : Int)) (kt : 0 ≤ x → XW p l e R s m args below meth c cells slots Q D A nL ws tgt lv st) (kf : ¬ (0 ≤ x) → XW p l e R s m args below meth c cells slots Q D A nL ws (pc + 3) lv st) : XW p l e R s m args below meth c cells slots Q D A nL ws pc lv (.int x :: st) :=
  fun H locs ls hP hD hS h => lv_if_ge K.1 K.2.1 hdg ht (fun q => kt q H locs ls hP hD hS h) (fun q => kf q H locs ls hP hD hS h)
theorem x_cmp_eq (K : XC p R s m args c cells slots D A tys nL cc own dR) {x y : Int32} {off : Int} (tgt : Nat) (hdg : decode cc pc = .ok (.if_icmp .eq off, 3)) (ht : (pc : Int) + off = (tgt : Int)) (kt : x = y → XW p l e R s m args below meth c cells slots Q D A nL ws tgt lv st) (kf : ¬ (x = y) → XW p l e R s m args below meth c cells slots Q D A nL ws (pc + 3) lv st) : XW p l e R s m args below meth c cells slots Q D A nL ws pc lv (.int y :: .int x :: st) :=
  fun H locs ls hP hD hS h => lv_icmp_eq K.1 K.2.1 hdg ht (fun q => kt q H locs ls hP hD hS h) (fun q => kf q H locs ls hP hD hS h)
theorem x_cmpN_eq (K : XC p R s m args c cells slots D A tys nL cc own dR) {x y : Nat} {off : Int} (tgt : Nat) (hdg : decode cc pc = .ok (.if_icmp .eq off, 3)) (ht : (pc : Int) + off = (tgt : Int)) (hx : x < 2 ^ 31) (hy : y < 2 ^ 31) (kt : x = y → XW p l e R s m args below meth c cells slots Q D A nL ws tgt lv st) (kf : ¬ (x = y) → XW p l e R s m args below meth c cells slots Q D A nL ws (pc + 3) lv st) : XW p l e R s m args below meth c cells slots Q D A nL ws pc lv (.int (nI y) :: .int (nI x) :: st) :=
  x_cmp_eq K tgt hdg ht (fun q => kt ((nI_eq hx hy).mp q)) (fun q => kf (fun z => q ((nI_eq hx hy).mpr z)))
theorem x_cmp_ne (K : XC p R s m args c cells slots D A tys nL cc own dR) {x y : Int32} {off : Int} (tgt : Nat) (hdg : decode cc pc = .ok (.if_icmp .ne off, 3)) (ht : (pc : Int) + off = (tgt : Int)) (kt : ¬ x = y → XW p l e R s m args below meth c cells slots Q D A nL ws tgt lv st) (kf : x = y → XW p l e R s m args below meth c cells slots Q D A nL ws (pc + 3) lv st) : XW p l e R s m args below meth c cells slots Q D A nL ws pc lv (.int y :: .int x :: st) :=
  fun H locs ls hP hD hS h => lv_icmp_ne K.1 K.2.1 hdg ht (fun q => kt q H locs ls hP hD hS h) (fun q => kf q H locs ls hP hD hS h)
theorem x_cmpN_ne (K : XC p R s m args c cells slots D A tys nL cc own dR) {x y : Nat} {off : Int} (tgt : Nat) (hdg : decode cc pc = .ok (.if_icmp .ne off, 3)) (ht : (pc : Int) + off = (tgt : Int)) (hx : x < 2 ^ 31) (hy : y < 2 ^ 31) (kt : ¬ x = y → XW p l e R s m args below meth c cells slots Q D A nL ws tgt lv st) (kf : x = y → XW p l e R s m args below meth c cells slots Q D A nL ws (pc + 3) lv st) : XW p l e R s m args below meth c cells slots Q D A nL ws pc lv (.int (nI y) :: .int (nI x) :: st) :=
  x_cmp_ne K tgt hdg ht (fun q => kt (fun z => q ((nI_eq hx hy).mpr z))) (fun q => kf ((nI_eq hx hy).mp q))
theorem x_cmp_lt (K : XC p R s m args c cells slots D A tys nL cc own dR) {x y : Int32} {off : Int} (tgt : Nat) (hdg : decode cc pc = .ok (.if_icmp .lt off, 3)) (ht : (pc : Int) + off = (tgt : Int)) (kt : x < y → XW p l e R s m args below meth c cells slots Q D A nL ws tgt lv st) (kf : ¬ (x < y) → XW p l e R s m args below meth c cells slots Q D A nL ws (pc + 3) lv st) : XW p l e R s m args below meth c cells slots Q D A nL ws pc lv (.int y :: .int x :: st) :=
  fun H locs ls hP hD hS h => lv_icmp_lt K.1 K.2.1 hdg ht (fun q => kt q H locs ls hP hD hS h) (fun q => kf q H locs ls hP hD hS h)
theorem x_cmpN_lt (K : XC p R s m args c cells slots D A tys nL cc own dR) {x y : Nat} {off : Int} (tgt : Nat) (hdg : decode cc pc = .ok (.if_icmp .lt off, 3)) (ht : (pc : Int) + off = (tgt : Int)) (hx : x < 2 ^ 31) (hy : y < 2 ^ 31) (kt : x < y → XW p l e R s m args below meth c cells slots Q D A nL ws tgt lv st) (kf : ¬ (x < y) → XW p l e R s m args below meth c cells slots Q D A nL ws (pc + 3) lv st) : XW p l e R s m args below meth c cells slots Q D A nL ws pc lv (.int (nI y) :: .int (nI x) :: st) :=
  x_cmp_lt K tgt hdg ht (fun q => kt ((nI_ltI hx hy).mp q)) (fun q => kf (fun z => q ((nI_ltI hx hy).mpr z)))
theorem x_cmp_ge (K : XC p R s m args c cells slots D A tys nL cc own dR) {x y : Int32} {off : Int} (tgt : Nat) (hdg : decode cc pc = .ok (.if_icmp .ge off, 3)) (ht : (pc : Int) + off = (tgt : Int)) (kt : y ≤ x → XW p l e R s m args below meth c cells slots Q D A nL ws tgt lv st) (kf : ¬ (y ≤ x) → XW p l e R s m args below meth c cells slots Q D A nL ws (pc + 3) lv st) : XW p l e R s m args below meth c cells slots Q D A nL ws pc lv (.int y :: .int x :: st) :=
  fun H locs ls hP hD hS h => lv_icmp_ge K.1 K.2.1 hdg ht (fun q => kt q H locs ls hP hD hS h) (fun q => kf q H locs ls hP hD hS h)
theorem x_cmpN_ge (K : XC p R s m args c cells slots D A tys nL cc own dR) {x y : Nat} {off : Int} (tgt : Nat) (hdg : decode cc pc = .ok (.if_icmp .ge off, 3)) (ht : (pc : Int) + off = (tgt : Int)) (hx : x < 2 ^ 31) (hy : y < 2 ^ 31) (kt : y ≤ x → XW p l e R s m args below meth c cells slots Q D A nL ws tgt lv st) (kf : ¬ (y ≤ x) → XW p l e R s m args below meth c cells slots Q D A nL ws (pc + 3) lv st) : XW p l e R s m args below meth c cells slots Q D A nL ws pc lv (.int (nI y) :: .int (nI x) :: st) :=
  x_cmp_ge K tgt hdg ht (fun q => kt ((nI_leI hy hx).mp q)) (fun q => kf (fun z => q ((nI_leI hy hx).mpr z)))
theorem x_cmp_gt (K : XC p R s m args c cells slots D A tys nL cc own dR) {x y : Int32} {off : Int} (tgt : Nat) (hdg : decode cc pc = .ok (.if_icmp .gt off, 3)) (ht : (pc : Int) + off = (tgt : Int)) (kt : y < x → XW p l e R s m args below meth c cells slots Q D A nL ws tgt lv st) (kf : ¬ (y < x) → XW p l e R s m args below meth c cells slots Q D A nL ws (pc + 3) lv st) : XW p l e R s m args below meth c cells slots Q D A nL ws pc lv (.int y :: .int x :: st) :=
  fun H locs ls hP hD hS h => lv_icmp_gt K.1 K.2.1 hdg ht (fun q => kt q H locs ls hP hD hS h) (fun q => kf q H locs ls hP hD hS h)
theorem x_cmpN_gt (K : XC p R s m args c cells slots D A tys nL cc own dR) {x y : Nat} {off : Int} (tgt : Nat) (hdg : decode cc pc = .ok (.if_icmp .gt off, 3)) (ht : (pc : Int) + off = (tgt : Int)) (hx : x < 2 ^ 31) (hy : y < 2 ^ 31) (kt : y < x → XW p l e R s m args below meth c cells slots Q D A nL ws tgt lv st) (kf : ¬ (y < x) → XW p l e R s m args below meth c cells slots Q D A nL ws (pc + 3) lv st) : XW p l e R s m args below meth c cells slots Q D A nL ws pc lv (.int (nI y) :: .int (nI x) :: st) :=
  x_cmp_gt K tgt hdg ht (fun q => kt ((nI_ltI hy hx).mp q)) (fun q => kf (fun z => q ((nI_ltI hy hx).mpr z)))
theorem x_cmp_le (K : XC p R s m args c cells slots D A tys nL cc own dR) {x y : Int32} {off : Int} (tgt : Nat) (hdg : decode cc pc = .ok (.if_icmp .le off, 3)) (ht : (pc : Int) + off = (tgt : Int)) (kt : x ≤ y → XW p l e R s m args below meth c cells slots Q D A nL ws tgt lv st) (kf : ¬ (x ≤ y) → XW p l e R s m args below meth c cells slots Q D A nL ws (pc + 3) lv st) : XW p l e R s m args below meth c cells slots Q D A nL ws pc lv (.int y :: .int x :: st) :=
  fun H locs ls hP hD hS h => lv_icmp_le K.1 K.2.1 hdg ht (fun q => kt q H locs ls hP hD hS h) (fun q => kf q H locs ls hP hD hS h)
theorem x_cmpN_le (K : XC p R s m args c cells slots D A tys nL cc own dR) {x y : Nat} {off : Int} (tgt : Nat) (hdg : decode cc pc = .ok (.if_icmp .le off, 3)) (ht : (pc : Int) + off = (tgt : Int)) (hx : x < 2 ^ 31) (hy : y < 2 ^ 31) (kt : x ≤ y → XW p l e R s m args below meth c cells slots Q D A nL ws tgt lv st) (kf : ¬ (x ≤ y) → XW p l e R s m args below meth c cells slots Q D A nL ws (pc + 3) lv st) : XW p l e R s m args below meth c cells slots Q D A nL ws pc lv (.int (nI y) :: .int (nI x) :: st) :=
  x_cmp_le K tgt hdg ht (fun q => kt ((nI_leI hx hy).mp q)) (fun q => kf (fun z => q ((nI_leI hx hy).mpr z)))
theorem x_iald (K : XC p R s m args c cells slots D A tys nL cc own dR) {a q : Nat} (q0 t0 : Nat) {cA : ClassId} {n : Nat} {f : Nat → Int32} (ha : ws[q0]? = some (a, .inl (cA, n, .inl f))) (ht : tys[t0]? = some (cA, .int)) (hn31 : n < 2 ^ 31) (k : Nat) (hk : q = k) (hn : k < n) {x : Int32} (hx : f k = x) (hdg : decode cc pc = .ok (.iaload, 1))
    (kk : XW p l e R s m args below meth c cells slots Q D A nL ws (pc + 1) lv (.int x :: st)) : XW p l e R s m args below meth c cells slots Q D A nL ws pc lv (.int (nI q) :: .ref a :: st) := by
  intro H locs ls hP hD hS h
  subst hk
  refine va_iald K.1 K.2.1 K.2.2.2.2.2.1 hP q0 t0 ha ht (vp_in_nI hn hn31) hdg ?_
  rw [nI_clamp (by omega), hx]
  exact kk H locs ls hP hD hS h
theorem x_bald (K : XC p R s m args c cells slots D A tys nL cc own dR) {a q : Nat} (q0 t0 : Nat) {cA : ClassId} {n : Nat} {f : Nat → Int32} (ha : ws[q0]? = some (a, .inl (cA, n, .inl f))) (ht : tys[t0]? = some (cA, .byte)) (hn31 : n < 2 ^ 31) (k : Nat) (hk : q = k) (hn : k < n) {x : Int32} (hx : f k = x) (hdg : decode cc pc = .ok (.baload, 1))
    (kk : XW p l e R s m args below meth c cells slots Q D A nL ws (pc + 1) lv (.int x :: st)) : XW p l e R s m args below meth c cells slots Q D A nL ws pc lv (.int (nI q) :: .ref a :: st) := by
  intro H locs ls hP hD hS h
  subst hk
  refine va_bald K.1 K.2.1 K.2.2.2.2.2.1 hP q0 t0 ha ht (vp_in_nI hn hn31) hdg ?_
  rw [nI_clamp (by omega), hx]
  exact kk H locs ls hP hD hS h
theorem x_iast (K : XC p R s m args c cells slots D A tys nL cc own dR) {a q : Nat} (q0 t0 : Nat) {cA : ClassId} {n : Nat} {f : Nat → Int32} (ha : ws[q0]? = some (a, .inl (cA, n, .inl f))) (ht : tys[t0]? = some (cA, .int)) (hn31 : n < 2 ^ 31) (k : Nat) (hk : q = k) (hn : k < n) {x : Int32} {ws' : va_W} (hw : ws.set q0 (a, .inl (cA, n, .inl (upd f k x))) = ws') (hdg : decode cc pc = .ok (.iastore, 1))
    (kk : XW p l e R s m args below meth c cells slots Q D A nL ws' (pc + 1) lv st) : XW p l e R s m args below meth c cells slots Q D A nL ws pc lv (.int x :: .int (nI q) :: .ref a :: st) := by
  intro H locs ls hP hD hS h
  subst hk
  refine va_iast K.1 K.2.1 K.2.2.2.2.2.1 hP hD hS q0 t0 ha ht (vp_in_nI hn hn31) hdg (fun H1 locs1 hP1 hD1 hS1 => ?_)
  rw [nI_clamp (by omega), hw] at hP1 hD1
  exact kk H1 locs1 ls hP1 hD1 hS1 h
theorem x_bastN (K : XC p R s m args c cells slots D A tys nL cc own dR) {a q : Nat} (q0 t0 : Nat) {cA : ClassId} {n : Nat} {f : Nat → Int32} (ha : ws[q0]? = some (a, .inl (cA, n, .inl f))) (ht : tys[t0]? = some (cA, .byte)) (hn31 : n < 2 ^ 31) (k : Nat) (hk : q = k) (hn : k < n) {x : Nat} (hx : x < 128) {ws' : va_W} (hw : ws.set q0 (a, .inl (cA, n, .inl (upd f k (nI x)))) = ws') (hdg : decode cc pc = .ok (.bastore, 1))
    (kk : XW p l e R s m args below meth c cells slots Q D A nL ws' (pc + 1) lv st) : XW p l e R s m args below meth c cells slots Q D A nL ws pc lv (.int (nI x) :: .int (nI q) :: .ref a :: st) := by
  intro H locs ls hP hD hS h
  subst hk
  refine va_bast K.1 K.2.1 K.2.2.2.2.2.1 hP hD hS q0 t0 ha ht (vp_in_nI hn hn31) hdg (fun H1 locs1 hP1 hD1 hS1 => ?_)
  rw [nI_clamp (by omega), vp_nar_byte, nI_byte x hx, hw] at hP1 hD1
  exact kk H1 locs1 ls hP1 hD1 hS1 h
theorem x_get (K : XC p R s m args c cells slots D A tys nL cc own dR) {a : Nat} {C : String} {T : u_T} {N ci index : Nat} (hin : ∀ w ∈ u_ws C T N, w ∈ lw_all) (q0 : Nat) {fs : List Value} (he : ws[q0]? = some (a, .inr (ci, fs))) (hc : vwCl[ci]? = some (C, T, N)) (k : Nat) (hk : k < N) (hlink : Cond.fieldLink own index (T k).1 (T k).2.1 (T k).2.2.1 ∈ lw_all) {v : Value} (hv : fs[k]? = some v) (hdg : decode cc pc = .ok (.getfield index, 3))
    (kk : XW p l e R s m args below meth c cells slots Q D A nL ws (pc + 3) lv (v :: st)) : XW p l e R s m args below meth c cells slots Q D A nL ws pc lv (.ref a :: st) :=
  fun H locs ls hP hD hS h => va_get K.1 K.2.1 K.2.2.2.2.1 hin K.2.2.2.1 K.2.2.2.2.2.1 hP q0 he hc k hk (K.2.2.2.2.1 _ hlink) (fun _ h9 => h9) hv hdg (kk H locs ls hP hD hS h)
theorem x_put (K : XC p R s m args c cells slots D A tys nL cc own dR) {a : Nat} {C : String} {T : u_T} {N ci index : Nat} (hin : ∀ w ∈ u_ws C T N, w ∈ lw_all) (ty0 : Nat → FieldType) (hty : ∀ k, k < N → parseFieldDescriptor (T k).2.2.1 = some (ty0 k)) (hnm : ∀ a, a < N → ∀ b, b < N → a ≠ b → (T a).2.1 ≠ (T b).2.1) (q0 : Nat) {fs : List Value} (he : ws[q0]? = some (a, .inr (ci, fs))) (hc : vwCl[ci]? = some (C, T, N)) (k : Nat) (hk : k < N) (hlink : Cond.fieldLink own index (T k).1 (T k).2.1 (T k).2.2.1 ∈ lw_all) (hfin : (T k).2.2.2 = false) {ty : FieldType} {v : Value} (hd : parseFieldDescriptor (T k).2.2.1 = some ty) (hn : narrow ty v = v) (hfit : fits ty v = true) (hl : k < fs.length) {ws' : va_W} (hw : ws.set q0 (a, .inr (ci, fs.set k v)) = ws') (hdg : decode cc pc = .ok (.putfield index, 3))
    (kk : XW p l e R s m args below meth c cells slots Q D A nL ws' (pc + 3) lv st) : XW p l e R s m args below meth c cells slots Q D A nL ws pc lv (v :: .ref a :: st) := by
  intro H locs ls hP hD hS h
  refine va_put K.1 K.2.1 K.2.2.2.2.1 hin ty0 hty hnm K.2.2.2.1 K.2.2.2.2.2.1 hP hD hS q0 he hc k hk (K.2.2.2.2.1 _ hlink) (fun _ h9 => h9) hfin hd hn hfit hl hdg (fun H1 locs1 hP1 hD1 hS1 => ?_)
  rw [hw] at hP1 hD1
  exact kk H1 locs1 ls hP1 hD1 hS1 h
theorem x_iret (K : XC p R s m args c 0 0 D A tys nL cc own dR) (hr : meth.sig.returnType = some .int) (hlocks : meth.locks = false) {S : Type} {post : Int32 → S → Prop} {w' : S → va_W} {v : Int32} (hdg : decode cc pc = .ok (.ireturn, 1)) (u : S) (hw : w' u = ws) (hp : post v u) : XW p l e R s m args below meth c 0 0 (XQi below args s D tys A post w') D A nL ws pc lv [.int v] :=
  fun H locs ls hP hD hS h => W.iret K.1 K.2.1 hr (fun t ht hW => ⟨⟨v, u, rfl, hp, by rw [ht, hw]; exact hP, va_K.moved hW.alike K.2.2.2.2.2.1, by rw [hw]; exact hD⟩, hS.F ht⟩) hS.2.2 hdg hlocks
theorem x_zret (K : XC p R s m args c 0 0 D A tys nL cc own dR) (hr : meth.sig.returnType = some .boolean) (hlocks : meth.locks = false) {S : Type} {post : Int32 → S → Prop} {w' : S → va_W} {v : Int32} (hdg : decode cc pc = .ok (.ireturn, 1)) (u : S) (hw : w' u = ws) (hp : post v u) (hn : v = 0 ∨ v = 1) : XW p l e R s m args below meth c 0 0 (XQi below args s D tys A post w') D A nL ws pc lv [.int v] :=
  fun H locs ls hP hD hS h => W.zret K.1 K.2.1 hr (by rcases hn with rfl | rfl <;> rfl) (fun t ht hW => ⟨⟨v, u, rfl, hp, by rw [ht, hw]; exact hP, va_K.moved hW.alike K.2.2.2.2.2.1, by rw [hw]; exact hD⟩, hS.F ht⟩) hS.2.2 hdg hlocks
theorem x_vret (K : XC p R s m args c 0 0 D A tys nL cc own dR) (hr : meth.sig.returnType = none) (hlocks : meth.locks = false) {S : Type} {post : S → Prop} {w' : S → va_W} (hdg : decode cc pc = .ok (.return_, 1)) (u : S) (hw : w' u = ws) (hp : post u) : XW p l e R s m args below meth c 0 0 (XQv below args s D tys A post w') D A nL ws pc lv [] :=
  fun H locs ls hP hD hS h => W.vret K.1 K.2.1 hr (fun t ht hW => ⟨⟨u, rfl, hp, by rw [ht, hw]; exact hP, va_K.moved hW.alike K.2.2.2.2.2.1, by rw [hw]; exact hD⟩, hS.F ht⟩) hS.2.2 hdg hlocks
theorem xp_blind {av : List Value} {sz : Nat} : FrameBlind (XP D tys ws sz av) := fun a U g mk q => by
  obtain ⟨q0, q1, qP, qK, qD⟩ := q
  exact ⟨q0, q1, qP, va_K.moved (u := U) (U := U.calling g mk a) (Vm.Alike.refl U.vm) qK, qD⟩
theorem xa_in {H : Heap} {locs : List Loc} (hA : ∀ q : Nat, s.heap.size ≤ q → A q) (hD : va_D A ws) (hS : va_S A s.heap H locs) : ∀ q, va_A ws H.size q → A q := by
  intro q h
  rcases h with ⟨k, e, h⟩ | h
  · exact hD.2 k (q, e) h
  · exact hA q (Nat.le_trans hS.1 h)
/-- a call through an object: the callee has the whole picture -/
theorem x_callI {S : Type} {y : MethodName} {b : ByteArray} {nL' d n index : Nat} {rt : Option FieldType} {C : String} {T : u_T} {N ci h0 : Nat} {fs : List Value} {As : List Value} {post : Int32 → S → Prop} {w' : S → va_W} (K : XC p R s m args c cells slots D A tys nL cc own dR) (hM : CtI l y b nL' rt d D tys (.ref h0 :: As) ws post w')
    (h1 : Cond.methodLink own index y ∈ lw_all) (h2 : Cond.instanceMethod y ∈ lw_all) (h3 : Cond.selects C y y ∈ lw_all) (h4 : Cond.initialized C ∈ lw_all) (h5 : Cond.code y b nL' rt ∈ lw_all)
    (hd : y.cls = C ∧ y.cls ≠ "java/lang/invoke/MethodHandle" ∧ y.cls ≠ "java/lang/invoke/VarHandle" ∧ (parseMethodDescriptor y.desc).map (fun d => d.parameters.length) = some n) (hdR : d + 1 ≤ dR) (hnL : nL' ≤ 12) (he : ws[0]? = some (h0, .inr (ci, fs))) (hc : vwCl[ci]? = some (C, T, N)) (hn : As.length = n)
    {st0 : List Value} (hst : st0 = As.reverse ++ .ref h0 :: st) (hroom : (st.map fun v => v.category).sum ≤ 8) (hdg : decode cc pc = .ok (.invokevirtual index, 3))
    (kk : ∀ (r : Int32) (u : S), post r u → XW p l e R s m args below meth c cells slots Q D A nL (w' u) (pc + 3) lv (.int r :: st)) : XW p l e R s m args below meth c cells slots Q D A nL ws pc lv st0 := by
  intro H locs ls hP hD hS h
  obtain ⟨hx, hb, hml, hown, hts, hK, hA, hR, hcs⟩ := K
  have hFc := xa_in hA hD hS
  refine va_calli (va_runV (As := As) (rest := st) ⟨hx, hb, hml, hown, hts⟩ (hM H.size) (cwV n hts (lw_V h1 h2 h3 h4 h5) rfl rfl rfl hd ⟨by show d + 1 ≤ _; omega, by show 8 + (nL' + 11) + 31 * d ≤ _; omega⟩) ⟨xp_blind, va_recv hK hP hc he, fun U hU hW => ⟨rfl, by rw [hU], by rw [hU]; exact hP, va_K.moved hW.alike hK, hD.weaken (fun _ _ _ _ => trivial)⟩⟩ rfl hn h.1 hst (lv_room hroom) hdg ⟨hcs.1, hcs.2⟩) hS (fun q _ h => hFc q h) hFc (fun r u t H1 locs1 ht hvm hpost hB hz hk hS1 => ?_)
  obtain ⟨hP1, hK1, hD1⟩ := hB
  rw [ht] at hP1
  exact kk r u hpost H1 locs1 ls hP1 (hD1.weaken (fun _ _ _ hq => hFc _ hq)) hS1 h
theorem x_callV {S : Type} {y : MethodName} {b : ByteArray} {nL' d n index : Nat} {C : String} {T : u_T} {N ci h0 : Nat} {fs : List Value} {As : List Value} {post : S → Prop} {w' : S → va_W} (K : XC p R s m args c cells slots D A tys nL cc own dR) (hM : CtV l y b nL' d D tys (.ref h0 :: As) ws post w')
    (h1 : Cond.methodLink own index y ∈ lw_all) (h2 : Cond.instanceMethod y ∈ lw_all) (h3 : Cond.selects C y y ∈ lw_all) (h4 : Cond.initialized C ∈ lw_all) (h5 : Cond.code y b nL' none ∈ lw_all)
    (hd : y.cls = C ∧ y.cls ≠ "java/lang/invoke/MethodHandle" ∧ y.cls ≠ "java/lang/invoke/VarHandle" ∧ (parseMethodDescriptor y.desc).map (fun d => d.parameters.length) = some n) (hdR : d + 1 ≤ dR) (hnL : nL' ≤ 12) (he : ws[0]? = some (h0, .inr (ci, fs))) (hc : vwCl[ci]? = some (C, T, N)) (hn : As.length = n)
    {st0 : List Value} (hst : st0 = As.reverse ++ .ref h0 :: st) (hroom : (st.map fun v => v.category).sum ≤ 8) (hdg : decode cc pc = .ok (.invokevirtual index, 3))
    (kk : ∀ (u : S), post u → XW p l e R s m args below meth c cells slots Q D A nL (w' u) (pc + 3) lv st) : XW p l e R s m args below meth c cells slots Q D A nL ws pc lv st0 := by
  intro H locs ls hP hD hS h
  obtain ⟨hx, hb, hml, hown, hts, hK, hA, hR, hcs⟩ := K
  have hFc := xa_in hA hD hS
  refine va_callv (va_runV (As := As) (rest := st) ⟨hx, hb, hml, hown, hts⟩ (hM H.size) (cwV n hts (lw_V h1 h2 h3 h4 h5) rfl rfl rfl hd ⟨by show d + 1 ≤ _; omega, by show 8 + (nL' + 11) + 31 * d ≤ _; omega⟩) ⟨xp_blind, va_recv hK hP hc he, fun U hU hW => ⟨rfl, by rw [hU], by rw [hU]; exact hP, va_K.moved hW.alike hK, hD.weaken (fun _ _ _ _ => trivial)⟩⟩ rfl hn h.1 hst (lv_room hroom) hdg ⟨hcs.1, hcs.2⟩) hS (fun q _ h => hFc q h) hFc (fun u t H1 locs1 ht hvm hpost hB hz hk hS1 => ?_)
  obtain ⟨hP1, hK1, hD1⟩ := hB
  rw [ht] at hP1
  exact kk u hpost H1 locs1 ls hP1 (hD1.weaken (fun _ _ _ hq => hFc _ hq)) hS1 h
theorem x_callS {S : Type} {y : MethodName} {b : ByteArray} {nL' d n index : Nat} {rt : Option FieldType} {As : List Value} {post : Int32 → S → Prop} {w' : S → va_W} (K : XC p R s m args c cells slots D A tys nL cc own dR) (hM : CtI l y b nL' rt d D tys As ws post w')
    (h1 : Cond.methodLink own index y ∈ lw_all) (h2 : Cond.static y ∈ lw_all) (h3 : Cond.initialized y.cls ∈ lw_all) (h4 : Cond.code y b nL' rt ∈ lw_all)
    (hd : y.cls ≠ "java/lang/invoke/MethodHandle" ∧ y.cls ≠ "java/lang/invoke/VarHandle" ∧ (parseMethodDescriptor y.desc).map (fun d => d.parameters.length) = some n) (hdR : d + 1 ≤ dR) (hnL : nL' ≤ 12) (hn : As.length = n)
    {st0 : List Value} (hst : st0 = As.reverse ++ st) (hroom : (st.map fun v => v.category).sum ≤ 8) (hdg : decode cc pc = .ok (.invokestatic index, 3))
    (kk : ∀ (r : Int32) (u : S), post r u → XW p l e R s m args below meth c cells slots Q D A nL (w' u) (pc + 3) lv (.int r :: st)) : XW p l e R s m args below meth c cells slots Q D A nL ws pc lv st0 := by
  intro H locs ls hP hD hS h
  obtain ⟨hx, hb, hml, hown, hts, hK, hA, hR, hcs⟩ := K
  have hFc := xa_in hA hD hS
  refine va_calli (va_runS (As := As) (rest := st) ⟨hx, hb, hml, hown, hts⟩ (hM H.size) (va_cwS n hts (lw_S h1 h2 h3 h4) rfl rfl rfl hd ⟨by show d + 1 ≤ _; omega, by show 8 + (nL' + 11) + 31 * d ≤ _; omega⟩) ⟨xp_blind, fun U hU hW => ⟨rfl, by rw [hU], by rw [hU]; exact hP, va_K.moved hW.alike hK, hD.weaken (fun _ _ _ _ => trivial)⟩⟩ rfl hn h.1 hst (lv_room hroom) hdg ⟨hcs.1, hcs.2⟩) hS (fun q _ h => hFc q h) hFc (fun r u t H1 locs1 ht hvm hpost hB hz hk hS1 => ?_)
  obtain ⟨hP1, hK1, hD1⟩ := hB
  rw [ht] at hP1
  exact kk r u hpost H1 locs1 ls hP1 (hD1.weaken (fun _ _ _ hq => hFc _ hq)) hS1 h
end XK
end
section
set_option maxRecDepth 100000
/-! the pictures of the two objects, and the rows of their fields and arrays -/
def wX (ad : Nat → Nat) (bd : Nat → ClassId) (S C V NS NC NV : Nat → Int32) (mk : Nat) (Wk : Nat → Int32) : va_W := [(ad 0, .inr (0, [.ref (ad 1), .ref (ad 2), .ref (ad 3), .ref (ad 4), .ref (ad 5), .ref (ad 6), .int (nI mk), .ref (ad 7)])), (ad 1, .inl (bd 1, 35, .inl S)), (ad 2, .inl (bd 2, 180, .inl C)), (ad 3, .inl (bd 3, 180, .inl V)), (ad 4, .inl (bd 4, 7, .inl NS)), (ad 5, .inl (bd 5, 36, .inl NC)), (ad 6, .inl (bd 6, 36, .inl NV)), (ad 7, .inl (bd 7, 6, .inl Wk))]
def tyX (bd : Nat → ClassId) : List (ClassId × FieldType) := [(bd 1, .byte), (bd 2, .byte), (bd 3, .int), (bd 4, .byte), (bd 5, .byte), (bd 6, .int), (bd 7, .int)]
def wM (ad : Nat → Nat) (bd : Nat → ClassId) (a b : Nat → Int32) : va_W := [(ad 0, .inr (1, [.ref (ad 1), .ref (ad 2)])), (ad 1, .inl (bd 1, 180, .inl a)), (ad 2, .inl (bd 2, 36, .inl b))]
def tyM (bd : Nat → ClassId) : List (ClassId × FieldType) := [(bd 1, .int), (bd 2, .int)]
section XX
variable {p : Program} {l : Launch} {e : Env} {R : Room} {s : State} {m : MethodId} {args : Array Value} {below : List Frame} {meth : Method} {c : Code} {cells slots : Nat} {Q : State → Prop}
variable {cc : ByteArray} {pc nL dR : Nat} {st : List Value} {lv : List Value} {D : va_G} {A : Nat → Prop} {ad : Nat → Nat} {bd : Nat → ClassId}
variable {S C V NS NC NV : Nat → Int32} {mk : Nat} {Wk : Nat → Int32}
theorem gtS (K : XC p R s m args c cells slots D A (tyX bd) nL cc RX0 dR) (hdg : decode cc pc = .ok (.getfield 7, 3)) (kk : XW p l e R s m args below meth c cells slots Q D A nL (wX ad bd S C V NS NC NV mk Wk) (pc + 3) lv (.ref (ad 1) :: st)) : XW p l e R s m args below meth c cells slots Q D A nL (wX ad bd S C V NS NC NV mk Wk) pc lv (.ref (ad 0) :: st) := x_get K in_X0 0 rfl rfl 0 (by decide) q28 rfl hdg kk
theorem gtC (K : XC p R s m args c cells slots D A (tyX bd) nL cc RX0 dR) (hdg : decode cc pc = .ok (.getfield 13, 3)) (kk : XW p l e R s m args below meth c cells slots Q D A nL (wX ad bd S C V NS NC NV mk Wk) (pc + 3) lv (.ref (ad 2) :: st)) : XW p l e R s m args below meth c cells slots Q D A nL (wX ad bd S C V NS NC NV mk Wk) pc lv (.ref (ad 0) :: st) := x_get K in_X0 0 rfl rfl 1 (by decide) q29 rfl hdg kk
theorem gtV (K : XC p R s m args c cells slots D A (tyX bd) nL cc RX0 dR) (hdg : decode cc pc = .ok (.getfield 16, 3)) (kk : XW p l e R s m args below meth c cells slots Q D A nL (wX ad bd S C V NS NC NV mk Wk) (pc + 3) lv (.ref (ad 3) :: st)) : XW p l e R s m args below meth c cells slots Q D A nL (wX ad bd S C V NS NC NV mk Wk) pc lv (.ref (ad 0) :: st) := x_get K in_X0 0 rfl rfl 2 (by decide) q30 rfl hdg kk
theorem gtNS (K : XC p R s m args c cells slots D A (tyX bd) nL cc RX0 dR) (hdg : decode cc pc = .ok (.getfield 20, 3)) (kk : XW p l e R s m args below meth c cells slots Q D A nL (wX ad bd S C V NS NC NV mk Wk) (pc + 3) lv (.ref (ad 4) :: st)) : XW p l e R s m args below meth c cells slots Q D A nL (wX ad bd S C V NS NC NV mk Wk) pc lv (.ref (ad 0) :: st) := x_get K in_X0 0 rfl rfl 3 (by decide) q31 rfl hdg kk
theorem gtNC (K : XC p R s m args c cells slots D A (tyX bd) nL cc RX0 dR) (hdg : decode cc pc = .ok (.getfield 23, 3)) (kk : XW p l e R s m args below meth c cells slots Q D A nL (wX ad bd S C V NS NC NV mk Wk) (pc + 3) lv (.ref (ad 5) :: st)) : XW p l e R s m args below meth c cells slots Q D A nL (wX ad bd S C V NS NC NV mk Wk) pc lv (.ref (ad 0) :: st) := x_get K in_X0 0 rfl rfl 4 (by decide) q32 rfl hdg kk
theorem gtNV (K : XC p R s m args c cells slots D A (tyX bd) nL cc RX0 dR) (hdg : decode cc pc = .ok (.getfield 26, 3)) (kk : XW p l e R s m args below meth c cells slots Q D A nL (wX ad bd S C V NS NC NV mk Wk) (pc + 3) lv (.ref (ad 6) :: st)) : XW p l e R s m args below meth c cells slots Q D A nL (wX ad bd S C V NS NC NV mk Wk) pc lv (.ref (ad 0) :: st) := x_get K in_X0 0 rfl rfl 5 (by decide) q33 rfl hdg kk
theorem gtWk (K : XC p R s m args c cells slots D A (tyX bd) nL cc RX0 dR) (hdg : decode cc pc = .ok (.getfield 29, 3)) (kk : XW p l e R s m args below meth c cells slots Q D A nL (wX ad bd S C V NS NC NV mk Wk) (pc + 3) lv (.ref (ad 7) :: st)) : XW p l e R s m args below meth c cells slots Q D A nL (wX ad bd S C V NS NC NV mk Wk) pc lv (.ref (ad 0) :: st) := x_get K in_X0 0 rfl rfl 7 (by decide) q35 rfl hdg kk
theorem gtmk (K : XC p R s m args c cells slots D A (tyX bd) nL cc RX0 dR) (hdg : decode cc pc = .ok (.getfield 32, 3)) (kk : XW p l e R s m args below meth c cells slots Q D A nL (wX ad bd S C V NS NC NV mk Wk) (pc + 3) lv (.int (nI mk) :: st)) : XW p l e R s m args below meth c cells slots Q D A nL (wX ad bd S C V NS NC NV mk Wk) pc lv (.ref (ad 0) :: st) := x_get K in_X0 0 rfl rfl 6 (by decide) q34 rfl hdg kk
theorem ptmk (K : XC p R s m args c cells slots D A (tyX bd) nL cc RX0 dR) {mk1 : Nat} (hdg : decode cc pc = .ok (.putfield 32, 3)) (kk : XW p l e R s m args below meth c cells slots Q D A nL (wX ad bd S C V NS NC NV mk1 Wk) (pc + 3) lv st) : XW p l e R s m args below meth c cells slots Q D A nL (wX ad bd S C V NS NC NV mk Wk) pc lv (.int (nI mk1) :: .ref (ad 0) :: st) := x_put K in_X0 tyX0 tyX0_ok nmX0 (ci := 0) (fs := [.ref (ad 1), .ref (ad 2), .ref (ad 3), .ref (ad 4), .ref (ad 5), .ref (ad 6), .int (nI mk), .ref (ad 7)]) (v := .int (nI mk1)) 0 rfl rfl 6 (by decide) q34 rfl (ty := .int) (by decide +kernel) rfl rfl (Nat.le_of_ble_eq_true rfl) rfl hdg kk
theorem ldS (K : XC p R s m args c cells slots D A (tyX bd) nL cc RX0 dR) {q : Nat} (k : Nat) (hk : q = k) (hn : k < 35) {x : Int32} (hx : S k = x) (hdg : decode cc pc = .ok (.baload, 1)) (kk : XW p l e R s m args below meth c cells slots Q D A nL (wX ad bd S C V NS NC NV mk Wk) (pc + 1) lv (.int x :: st)) : XW p l e R s m args below meth c cells slots Q D A nL (wX ad bd S C V NS NC NV mk Wk) pc lv (.int (nI q) :: .ref (ad 1) :: st) := x_bald K 1 0 rfl rfl (by decide) k hk hn hx hdg kk
theorem stS (K : XC p R s m args c cells slots D A (tyX bd) nL cc RX0 dR) {q x : Nat} (k : Nat) (hk : q = k) (hn : k < 35) (hx : x < 128) (hdg : decode cc pc = .ok (.bastore, 1)) (kk : XW p l e R s m args below meth c cells slots Q D A nL (wX ad bd (upd S k (nI x)) C V NS NC NV mk Wk) (pc + 1) lv st) : XW p l e R s m args below meth c cells slots Q D A nL (wX ad bd S C V NS NC NV mk Wk) pc lv (.int (nI x) :: .int (nI q) :: .ref (ad 1) :: st) := x_bastN K 1 0 rfl rfl (by decide) k hk hn hx rfl hdg kk
theorem ldC (K : XC p R s m args c cells slots D A (tyX bd) nL cc RX0 dR) {q : Nat} (k : Nat) (hk : q = k) (hn : k < 180) {x : Int32} (hx : C k = x) (hdg : decode cc pc = .ok (.baload, 1)) (kk : XW p l e R s m args below meth c cells slots Q D A nL (wX ad bd S C V NS NC NV mk Wk) (pc + 1) lv (.int x :: st)) : XW p l e R s m args below meth c cells slots Q D A nL (wX ad bd S C V NS NC NV mk Wk) pc lv (.int (nI q) :: .ref (ad 2) :: st) := x_bald K 2 1 rfl rfl (by decide) k hk hn hx hdg kk
theorem stC (K : XC p R s m args c cells slots D A (tyX bd) nL cc RX0 dR) {q x : Nat} (k : Nat) (hk : q = k) (hn : k < 180) (hx : x < 128) (hdg : decode cc pc = .ok (.bastore, 1)) (kk : XW p l e R s m args below meth c cells slots Q D A nL (wX ad bd S (upd C k (nI x)) V NS NC NV mk Wk) (pc + 1) lv st) : XW p l e R s m args below meth c cells slots Q D A nL (wX ad bd S C V NS NC NV mk Wk) pc lv (.int (nI x) :: .int (nI q) :: .ref (ad 2) :: st) := x_bastN K 2 1 rfl rfl (by decide) k hk hn hx rfl hdg kk
theorem ldV (K : XC p R s m args c cells slots D A (tyX bd) nL cc RX0 dR) {q : Nat} (k : Nat) (hk : q = k) (hn : k < 180) {x : Int32} (hx : V k = x) (hdg : decode cc pc = .ok (.iaload, 1)) (kk : XW p l e R s m args below meth c cells slots Q D A nL (wX ad bd S C V NS NC NV mk Wk) (pc + 1) lv (.int x :: st)) : XW p l e R s m args below meth c cells slots Q D A nL (wX ad bd S C V NS NC NV mk Wk) pc lv (.int (nI q) :: .ref (ad 3) :: st) := x_iald K 3 2 rfl rfl (by decide) k hk hn hx hdg kk
theorem stV (K : XC p R s m args c cells slots D A (tyX bd) nL cc RX0 dR) {q : Nat} {x : Int32} (k : Nat) (hk : q = k) (hn : k < 180) (hdg : decode cc pc = .ok (.iastore, 1)) (kk : XW p l e R s m args below meth c cells slots Q D A nL (wX ad bd S C (upd V k x) NS NC NV mk Wk) (pc + 1) lv st) : XW p l e R s m args below meth c cells slots Q D A nL (wX ad bd S C V NS NC NV mk Wk) pc lv (.int x :: .int (nI q) :: .ref (ad 3) :: st) := x_iast K 3 2 rfl rfl (by decide) k hk hn rfl hdg kk
theorem ldNS (K : XC p R s m args c cells slots D A (tyX bd) nL cc RX0 dR) {q : Nat} (k : Nat) (hk : q = k) (hn : k < 7) {x : Int32} (hx : NS k = x) (hdg : decode cc pc = .ok (.baload, 1)) (kk : XW p l e R s m args below meth c cells slots Q D A nL (wX ad bd S C V NS NC NV mk Wk) (pc + 1) lv (.int x :: st)) : XW p l e R s m args below meth c cells slots Q D A nL (wX ad bd S C V NS NC NV mk Wk) pc lv (.int (nI q) :: .ref (ad 4) :: st) := x_bald K 4 3 rfl rfl (by decide) k hk hn hx hdg kk
theorem stNS (K : XC p R s m args c cells slots D A (tyX bd) nL cc RX0 dR) {q x : Nat} (k : Nat) (hk : q = k) (hn : k < 7) (hx : x < 128) (hdg : decode cc pc = .ok (.bastore, 1)) (kk : XW p l e R s m args below meth c cells slots Q D A nL (wX ad bd S C V (upd NS k (nI x)) NC NV mk Wk) (pc + 1) lv st) : XW p l e R s m args below meth c cells slots Q D A nL (wX ad bd S C V NS NC NV mk Wk) pc lv (.int (nI x) :: .int (nI q) :: .ref (ad 4) :: st) := x_bastN K 4 3 rfl rfl (by decide) k hk hn hx rfl hdg kk
theorem ldNC (K : XC p R s m args c cells slots D A (tyX bd) nL cc RX0 dR) {q : Nat} (k : Nat) (hk : q = k) (hn : k < 36) {x : Int32} (hx : NC k = x) (hdg : decode cc pc = .ok (.baload, 1)) (kk : XW p l e R s m args below meth c cells slots Q D A nL (wX ad bd S C V NS NC NV mk Wk) (pc + 1) lv (.int x :: st)) : XW p l e R s m args below meth c cells slots Q D A nL (wX ad bd S C V NS NC NV mk Wk) pc lv (.int (nI q) :: .ref (ad 5) :: st) := x_bald K 5 4 rfl rfl (by decide) k hk hn hx hdg kk
theorem stNC (K : XC p R s m args c cells slots D A (tyX bd) nL cc RX0 dR) {q x : Nat} (k : Nat) (hk : q = k) (hn : k < 36) (hx : x < 128) (hdg : decode cc pc = .ok (.bastore, 1)) (kk : XW p l e R s m args below meth c cells slots Q D A nL (wX ad bd S C V NS (upd NC k (nI x)) NV mk Wk) (pc + 1) lv st) : XW p l e R s m args below meth c cells slots Q D A nL (wX ad bd S C V NS NC NV mk Wk) pc lv (.int (nI x) :: .int (nI q) :: .ref (ad 5) :: st) := x_bastN K 5 4 rfl rfl (by decide) k hk hn hx rfl hdg kk
theorem ldNV (K : XC p R s m args c cells slots D A (tyX bd) nL cc RX0 dR) {q : Nat} (k : Nat) (hk : q = k) (hn : k < 36) {x : Int32} (hx : NV k = x) (hdg : decode cc pc = .ok (.iaload, 1)) (kk : XW p l e R s m args below meth c cells slots Q D A nL (wX ad bd S C V NS NC NV mk Wk) (pc + 1) lv (.int x :: st)) : XW p l e R s m args below meth c cells slots Q D A nL (wX ad bd S C V NS NC NV mk Wk) pc lv (.int (nI q) :: .ref (ad 6) :: st) := x_iald K 6 5 rfl rfl (by decide) k hk hn hx hdg kk
theorem stNV (K : XC p R s m args c cells slots D A (tyX bd) nL cc RX0 dR) {q : Nat} {x : Int32} (k : Nat) (hk : q = k) (hn : k < 36) (hdg : decode cc pc = .ok (.iastore, 1)) (kk : XW p l e R s m args below meth c cells slots Q D A nL (wX ad bd S C V NS NC (upd NV k x) mk Wk) (pc + 1) lv st) : XW p l e R s m args below meth c cells slots Q D A nL (wX ad bd S C V NS NC NV mk Wk) pc lv (.int x :: .int (nI q) :: .ref (ad 6) :: st) := x_iast K 6 5 rfl rfl (by decide) k hk hn rfl hdg kk
theorem ldWk (K : XC p R s m args c cells slots D A (tyX bd) nL cc RX0 dR) {q : Nat} (k : Nat) (hk : q = k) (hn : k < 6) {x : Int32} (hx : Wk k = x) (hdg : decode cc pc = .ok (.iaload, 1)) (kk : XW p l e R s m args below meth c cells slots Q D A nL (wX ad bd S C V NS NC NV mk Wk) (pc + 1) lv (.int x :: st)) : XW p l e R s m args below meth c cells slots Q D A nL (wX ad bd S C V NS NC NV mk Wk) pc lv (.int (nI q) :: .ref (ad 7) :: st) := x_iald K 7 6 rfl rfl (by decide) k hk hn hx hdg kk
theorem stWk (K : XC p R s m args c cells slots D A (tyX bd) nL cc RX0 dR) {q : Nat} {x : Int32} (k : Nat) (hk : q = k) (hn : k < 6) (hdg : decode cc pc = .ok (.iastore, 1)) (kk : XW p l e R s m args below meth c cells slots Q D A nL (wX ad bd S C V NS NC NV mk (upd Wk k x)) (pc + 1) lv st) : XW p l e R s m args below meth c cells slots Q D A nL (wX ad bd S C V NS NC NV mk Wk) pc lv (.int x :: .int (nI q) :: .ref (ad 7) :: st) := x_iast K 7 6 rfl rfl (by decide) k hk hn rfl hdg kk
end XX
section MM
variable {p : Program} {l : Launch} {e : Env} {R : Room} {s : State} {m : MethodId} {args : Array Value} {below : List Frame} {meth : Method} {c : Code} {cells slots : Nat} {Q : State → Prop}
variable {cc : ByteArray} {pc nL dR : Nat} {st : List Value} {lv : List Value} {D : va_G} {A : Nat → Prop} {ad : Nat → Nat} {bd : Nat → ClassId}
variable {a b : Nat → Int32}
theorem gtA (K : XC p R s m args c cells slots D A (tyM bd) nL cc RX1 dR) (hdg : decode cc pc = .ok (.getfield 7, 3)) (kk : XW p l e R s m args below meth c cells slots Q D A nL (wM ad bd a b) (pc + 3) lv (.ref (ad 1) :: st)) : XW p l e R s m args below meth c cells slots Q D A nL (wM ad bd a b) pc lv (.ref (ad 0) :: st) := x_get K in_X1 0 rfl rfl 0 (by decide) q175 rfl hdg kk
theorem gtB (K : XC p R s m args c cells slots D A (tyM bd) nL cc RX1 dR) (hdg : decode cc pc = .ok (.getfield 13, 3)) (kk : XW p l e R s m args below meth c cells slots Q D A nL (wM ad bd a b) (pc + 3) lv (.ref (ad 2) :: st)) : XW p l e R s m args below meth c cells slots Q D A nL (wM ad bd a b) pc lv (.ref (ad 0) :: st) := x_get K in_X1 0 rfl rfl 1 (by decide) q176 rfl hdg kk
theorem ldA (K : XC p R s m args c cells slots D A (tyM bd) nL cc RX1 dR) {q : Nat} (k : Nat) (hk : q = k) (hn : k < 180) {x : Int32} (hx : a k = x) (hdg : decode cc pc = .ok (.iaload, 1)) (kk : XW p l e R s m args below meth c cells slots Q D A nL (wM ad bd a b) (pc + 1) lv (.int x :: st)) : XW p l e R s m args below meth c cells slots Q D A nL (wM ad bd a b) pc lv (.int (nI q) :: .ref (ad 1) :: st) := x_iald K 1 0 rfl rfl (by decide) k hk hn hx hdg kk
theorem stA (K : XC p R s m args c cells slots D A (tyM bd) nL cc RX1 dR) {q : Nat} {x : Int32} (k : Nat) (hk : q = k) (hn : k < 180) (hdg : decode cc pc = .ok (.iastore, 1)) (kk : XW p l e R s m args below meth c cells slots Q D A nL (wM ad bd (upd a k x) b) (pc + 1) lv st) : XW p l e R s m args below meth c cells slots Q D A nL (wM ad bd a b) pc lv (.int x :: .int (nI q) :: .ref (ad 1) :: st) := x_iast K 1 0 rfl rfl (by decide) k hk hn rfl hdg kk
theorem ldB (K : XC p R s m args c cells slots D A (tyM bd) nL cc RX1 dR) {q : Nat} (k : Nat) (hk : q = k) (hn : k < 36) {x : Int32} (hx : b k = x) (hdg : decode cc pc = .ok (.iaload, 1)) (kk : XW p l e R s m args below meth c cells slots Q D A nL (wM ad bd a b) (pc + 1) lv (.int x :: st)) : XW p l e R s m args below meth c cells slots Q D A nL (wM ad bd a b) pc lv (.int (nI q) :: .ref (ad 2) :: st) := x_iald K 2 1 rfl rfl (by decide) k hk hn hx hdg kk
theorem stB (K : XC p R s m args c cells slots D A (tyM bd) nL cc RX1 dR) {q : Nat} {x : Int32} (k : Nat) (hk : q = k) (hn : k < 36) (hdg : decode cc pc = .ok (.iastore, 1)) (kk : XW p l e R s m args below meth c cells slots Q D A nL (wM ad bd a (upd b k x)) (pc + 1) lv st) : XW p l e R s m args below meth c cells slots Q D A nL (wM ad bd a b) pc lv (.int x :: .int (nI q) :: .ref (ad 2) :: st) := x_iast K 2 1 rfl rfl (by decide) k hk hn rfl hdg kk
end MM
end
section
set_option maxRecDepth 100000
/-! the plain side: what the lists of a sparse matrix mean, and what each call answers -/
/-- how many of the first n places of f are not 0 -/
def ct (f : Nat → Int32) : Nat → Nat
  | 0 => 0
  | n + 1 => ct f n + (if f n = 0 then 0 else 1)
/-- the sum of the first n values of h -/
def sm (h : Nat → Int32) : Nat → Int32
  | 0 => 0
  | n + 1 => sm h n + h n
theorem ct_le (f : Nat → Int32) (n : Nat) : ct f n ≤ n := by
  induction n with
  | zero => exact Nat.le_refl _
  | succ n ih =>
    show ct f n + (if f n = 0 then 0 else 1) ≤ n + 1
    split <;> omega
theorem ct_s0 {f : Nat → Int32} {n : Nat} (h : f n = 0) : ct f (n + 1) = ct f n := by
  show ct f n + (if f n = 0 then 0 else 1) = _
  rw [if_pos h]
  rfl
theorem ct_s1 {f : Nat → Int32} {n : Nat} (h : f n ≠ 0) : ct f (n + 1) = ct f n + 1 := by
  show ct f n + (if f n = 0 then 0 else 1) = _
  rw [if_neg h]
theorem ct_mono (f : Nat → Int32) {m n : Nat} (h : m ≤ n) : ct f m ≤ ct f n := by
  induction n with
  | zero => rw [show m = 0 by omega]; exact Nat.le_refl _
  | succ n ih =>
    rcases Nat.eq_or_lt_of_le h with h | h
    · rw [h]; exact Nat.le_refl _
    · have := ih (by omega)
      show ct f m ≤ ct f n + (if f n = 0 then 0 else 1)
      omega
theorem ct_run {f : Nat → Int32} {m n : Nat} (h : m ≤ n) (hz : ∀ c, m ≤ c → c < n → f c = 0) : ct f n = ct f m := by
  induction n with
  | zero => rw [show m = 0 by omega]
  | succ n ih =>
    rcases Nat.eq_or_lt_of_le h with h | h
    · rw [h]
    · rw [ct_s0 (hz n (by omega) (by omega))]
      exact ih (by omega) (fun c h1 h2 => hz c h1 (by omega))
theorem ct_lt {f : Nat → Int32} {m n : Nat} (h : m < n) (hm : f m ≠ 0) : ct f m < ct f n := by
  have h1 := ct_mono f (m := m + 1) (n := n) h
  rw [ct_s1 hm] at h1
  omega
theorem ct_congr {f g : Nat → Int32} {n : Nat} (h : ∀ c, c < n → f c = g c) : ct f n = ct g n := by
  induction n with
  | zero => rfl
  | succ n ih =>
    show ct f n + (if f n = 0 then 0 else 1) = ct g n + (if g n = 0 then 0 else 1)
    rw [ih (fun c hc => h c (by omega)), h n (by omega)]
/-- the next place that isn't 0 -/
theorem ct_next (f : Nat → Int32) {m n : Nat} (h : m ≤ n) : (ct f m = ct f n ∧ ∀ c, m ≤ c → c < n → f c = 0) ∨ ∃ c, m ≤ c ∧ c < n ∧ f c ≠ 0 ∧ (∀ d, m ≤ d → d < c → f d = 0) ∧ ct f c = ct f m ∧ ct f (c + 1) = ct f m + 1 ∧ ct f m < ct f n := by
  induction n with
  | zero => exact Or.inl ⟨by rw [show m = 0 by omega], fun c h1 h2 => absurd h2 (by omega)⟩
  | succ n ih =>
    rcases Nat.eq_or_lt_of_le h with h | h
    · exact Or.inl ⟨by rw [h], fun c h1 h2 => absurd h2 (by omega)⟩
    · rcases ih (by omega) with ⟨h1, h2⟩ | ⟨c, h1, h2, h3, h4, h5, h6, h7⟩
      · by_cases hz : f n = 0
        · refine Or.inl ⟨by rw [ct_s0 hz]; exact h1, fun c hc1 hc2 => ?_⟩
          rcases Nat.eq_or_lt_of_le (Nat.le_of_lt_succ hc2) with hc | hc
          · rw [hc]; exact hz
          · exact h2 c hc1 hc
        · refine Or.inr ⟨n, by omega, by omega, hz, h2, h1.symm, by rw [ct_s1 hz, h1], by rw [ct_s1 hz, h1]; omega⟩
      · exact Or.inr ⟨c, h1, by omega, h3, h4, h5, h6, Nat.lt_of_lt_of_le h7 (ct_mono f (by omega))⟩
/-- the place of the k-th value that isn't 0 -/
theorem ct_inv {f : Nat → Int32} {m n k : Nat} (hmn : m ≤ n) (h1 : ct f m ≤ k) (h2 : k < ct f n) : ∃ c, m ≤ c ∧ c < n ∧ f c ≠ 0 ∧ ct f c = k := by
  induction n with
  | zero => exact absurd h2 (by show ¬ k < 0; omega)
  | succ n ih =>
    rcases Nat.eq_or_lt_of_le hmn with h | h
    · subst h; omega
    · by_cases hk : k < ct f n
      · obtain ⟨c, a, b, d, e⟩ := ih (by omega) hk
        exact ⟨c, a, by omega, d, e⟩
      · by_cases hz : f n = 0
        · rw [ct_s0 hz] at h2; omega
        · rw [ct_s1 hz] at h2
          exact ⟨n, by omega, by omega, hz, by omega⟩
theorem ct_inj {f : Nat → Int32} {c d : Nat} (hc : f c ≠ 0) (hd : f d ≠ 0) (h : ct f c = ct f d) : c = d := by
  rcases Nat.lt_trichotomy c d with z | z | z
  · have := ct_lt z hc; omega
  · exact z
  · have := ct_lt z hd; omega
/-- slot s of the whole array -/
def sl (a : Nat → Int32) (s : Nat) : Nat → Int32 := fun c => a (36 * s + c)
/-- the lists of slot s hold the matrix f -/
def RepS (S C V : Nat → Int32) (s : Nat) (f : Nat → Int32) : Prop := (∀ i, i ≤ 6 → S (7 * s + i) = nI (ct f (6 * i))) ∧ ∀ c, c < 36 → f c ≠ 0 → C (36 * s + ct f c) = nI (c % 6) ∧ V (36 * s + ct f c) = f c
def Rep (S C V a : Nat → Int32) : Prop := ∀ s, s < 5 → RepS S C V s (sl a s)
/-- the new lists hold the first n places of b -/
def Mk (b : Nat → Int32) (n : Nat) (NC NV : Nat → Int32) (mk : Nat) : Prop := mk = ct b n ∧ ∀ c, c < n → b c ≠ 0 → NC (ct b c) = nI (c % 6) ∧ NV (ct b c) = b c
def NSok (b : Nat → Int32) (i : Nat) (NS : Nat → Int32) : Prop := ∀ j, j ≤ i → NS j = nI (ct b (6 * j))
/-- the whole array with slot t replaced -/
def putm (a : Nat → Int32) (t : Nat) (b : Nat → Int32) : Nat → Int32 := fun q => if 36 * t ≤ q ∧ q < 36 * t + 36 then b (q - 36 * t) else a q
theorem rep_from {S C V f : Nat → Int32} {s i : Nat} (h : RepS S C V s f) (hi : i < 6) : S (7 * s + i) = nI (ct f (6 * i)) := h.1 i (by omega)
theorem rep_up {S C V f : Nat → Int32} {s i : Nat} (h : RepS S C V s f) (hi : i < 6) : S (7 * s + (i + 1)) = nI (ct f (6 * i + 6)) := h.1 (i + 1) (by omega)
/-- walking a row: the next entry -/
theorem it_row {S C V f : Nat → Int32} {s i j : Nat} (h : RepS S C V s f) (hi : i < 6) (hj : j ≤ 6) : (ct f (6 * i + j) = ct f (6 * i + 6) ∧ ∀ j', j ≤ j' → j' < 6 → f (6 * i + j') = 0) ∨
    ∃ j', j ≤ j' ∧ j' < 6 ∧ f (6 * i + j') ≠ 0 ∧ (∀ d, j ≤ d → d < j' → f (6 * i + d) = 0) ∧ ct f (6 * i + j) < ct f (6 * i + 6) ∧ C (36 * s + ct f (6 * i + j)) = nI j' ∧ V (36 * s + ct f (6 * i + j)) = f (6 * i + j') ∧ ct f (6 * i + (j' + 1)) = ct f (6 * i + j) + 1 := by
  rcases ct_next f (m := 6 * i + j) (n := 6 * i + 6) (by omega) with ⟨h1, h2⟩ | ⟨c, h1, h2, h3, h4, h5, h6, h7⟩
  · exact Or.inl ⟨h1, fun j' a b => h2 (6 * i + j') (by omega) (by omega)⟩
  · obtain ⟨j', rfl⟩ : ∃ j', c = 6 * i + j' := ⟨c - 6 * i, by omega⟩
    have h8 := h.2 (6 * i + j') (by omega) h3
    rw [h5] at h8
    refine Or.inr ⟨j', by omega, by omega, h3, fun d a b => h4 (6 * i + d) (by omega) (by omega), h7, ?_, h8.2, h6⟩
    rw [h8.1]
    congr 1
    omega
theorem ct_row_le {f : Nat → Int32} {i j : Nat} (hi : i < 6) (hj : j ≤ 6) : ct f (6 * i + j) ≤ 36 := by
  have := ct_le f (6 * i + j)
  omega
theorem ct36 (f : Nat → Int32) {n : Nat} (h : n ≤ 36) : ct f n ≤ 36 := by
  have := ct_le f n
  omega
theorem mk_0 {b NC NV : Nat → Int32} : Mk b 0 NC NV 0 := ⟨rfl, fun c hc => absurd hc (by omega)⟩
theorem ns_0 {b NS : Nat → Int32} : NSok b 0 (upd NS 0 (nI 0)) := by
  intro j hj
  rw [show j = 0 by omega, pk_us]
  rfl
theorem mk_skip {b NC NV : Nat → Int32} {n n' mk : Nat} (h : Mk b n NC NV mk) (hn : n ≤ n') (hz : ∀ c, n ≤ c → c < n' → b c = 0) : Mk b n' NC NV mk := by
  refine ⟨by rw [h.1, ct_run hn hz], fun c hc hb => ?_⟩
  by_cases hcn : c < n
  · exact h.2 c hcn hb
  · exact absurd (hz c (by omega) hc) hb
theorem mk_emit {b NC NV : Nat → Int32} {n mk : Nat} (h : Mk b n NC NV mk) (hb : b n ≠ 0) : Mk b (n + 1) (upd NC mk (nI (n % 6))) (upd NV mk (b n)) (mk + 1) := by
  refine ⟨by rw [ct_s1 hb, h.1], fun c hc hbc => ?_⟩
  by_cases hcn : c < n
  · have hlt : ct b c < mk := by rw [h.1]; exact ct_lt hcn hbc
    rw [pk_un (by omega), pk_un (by omega)]
    exact h.2 c hcn hbc
  · have : c = n := by omega
    subst this
    rw [← h.1, pk_us, pk_us]
    exact ⟨rfl, rfl⟩
theorem mk_emit0 {b NC NV : Nat → Int32} {n mk : Nat} (h : Mk b n NC NV mk) (hb : b n = 0) : Mk b (n + 1) NC NV mk := mk_skip h (by omega) (fun c h1 h2 => by rw [show c = n by omega]; exact hb)
theorem ns_s {b NS : Nat → Int32} {i : Nat} (h : NSok b i NS) : NSok b (i + 1) (upd NS (i + 1) (nI (ct b (6 * i + 6)))) := by
  intro j hj
  by_cases hji : j = i + 1
  · rw [hji, pk_us]; rfl
  · rw [pk_un hji]
    exact h j (by omega)
theorem mk_full {b NC NV : Nat → Int32} {mk k : Nat} (h : Mk b 36 NC NV mk) (hk : k < mk) : ∃ c, c < 36 ∧ b c ≠ 0 ∧ ct b c = k ∧ NC k = nI (c % 6) ∧ NV k = b c := by
  rw [h.1] at hk
  obtain ⟨c, -, h2, h3, h4⟩ := ct_inv (m := 0) (Nat.zero_le _) (Nat.zero_le _) hk
  subst h4
  exact ⟨c, h2, h3, rfl, h.2 c h2 h3⟩
theorem putm_in {a b : Nat → Int32} {t c : Nat} (h : c < 36) : putm a t b (36 * t + c) = b c := by
  unfold putm
  rw [if_pos ⟨by omega, by omega⟩, Nat.add_sub_cancel_left]
theorem putm_out {a b : Nat → Int32} {t s c : Nat} (h : c < 36) (hs : s ≠ t) : putm a t b (36 * s + c) = a (36 * s + c) := by
  unfold putm
  rw [if_neg (by omega)]
theorem RepS.congr {S C V S' C' V' f g : Nat → Int32} {s : Nat} (h : RepS S C V s f) (hf : ∀ c, c < 36 → g c = f c) (hS : ∀ i, i ≤ 6 → S' (7 * s + i) = S (7 * s + i)) (hC : ∀ k, k < 36 → C' (36 * s + k) = C (36 * s + k)) (hV : ∀ k, k < 36 → V' (36 * s + k) = V (36 * s + k)) : RepS S' C' V' s g := by
  refine ⟨fun i hi => ?_, fun c hc hb => ?_⟩
  · rw [hS i hi, h.1 i hi, ct_congr (fun c hc => (hf c (by omega)).symm)]
  · have e : ct g c = ct f c := ct_congr (fun d hd => hf d (by omega))
    have hb' : f c ≠ 0 := by rw [← hf c hc]; exact hb
    have hlt : ct f c < 36 := by have := ct_le f c; omega
    have h2 := h.2 c hc hb'
    rw [e, hC _ hlt, hV _ hlt, hf c hc]
    exact h2
/-- the picture behind a store -/
theorem rep_store {S C V a b S' C' V' : Nat → Int32} {t : Nat} (ht : t < 5) (h : Rep S C V a) (h1 : ∀ i, i ≤ 6 → S' (7 * t + i) = nI (ct b (6 * i))) (h2 : ∀ q, (q < 7 * t ∨ 7 * t + 7 ≤ q) → S' q = S q)
    (h3 : ∀ c, c < 36 → b c ≠ 0 → C' (36 * t + ct b c) = nI (c % 6) ∧ V' (36 * t + ct b c) = b c) (h4 : ∀ q, (q < 36 * t ∨ 36 * t + 36 ≤ q) → C' q = C q ∧ V' q = V q) : Rep S' C' V' (putm a t b) := by
  intro s hs
  by_cases hst : s = t
  · subst hst
    have e : ∀ c, c < 36 → sl (putm a s b) s c = b c := fun c hc => putm_in hc
    refine ⟨fun i hi => ?_, fun c hc hb => ?_⟩
    · rw [h1 i hi, ct_congr (fun c hc => (e c (by omega)).symm)]
    · have ec : ct (sl (putm a s b) s) c = ct b c := ct_congr (fun d hd => e d (by omega))
      rw [ec, e c hc]
      rw [e c hc] at hb
      exact h3 c hc hb
  · refine (h s hs).congr (fun c hc => putm_out hc hst) (fun i hi => h2 _ (by omega)) (fun k hk => (h4 _ (by omega)).1) (fun k hk => (h4 _ (by omega)).2)
/-! numbers that are places -/
def okb (N : Nat) (x : Int32) : Bool := decide (¬ x < 0) && decide (x.toNatClampNeg < N)
def bI (b : Bool) : Int32 := if b = true then 1 else 0
theorem okb_neg {N : Nat} {x : Int32} (h : x < 0) : okb N x = false := by
  simp [okb, h]
theorem okb_nI {N n : Nat} (h : n < 2 ^ 31) : okb N (nI n) = decide (n < N) := by
  simp [okb, nI_clamp h, nI_pos h]
theorem okb_lt {N n : Nat} (h : n < N) (hN : N < 2 ^ 31) : okb N (nI n) = true := by
  rw [okb_nI (by omega)]
  exact decide_eq_true h
theorem okb_of {N : Nat} {x : Int32} (h : okb N x = true) : ∃ n, n < N ∧ x = nI n := by
  simp only [okb, Bool.and_eq_true, decide_eq_true_eq] at h
  obtain ⟨j, hj, rfl⟩ := nI_of h.1
  rw [nI_clamp hj] at h
  exact ⟨j, h.2, rfl⟩
theorem bI_01 (b : Bool) : bI b = 0 ∨ bI b = 1 := by
  cases b
  · exact Or.inl rfl
  · exact Or.inr rfl
theorem bI_0 {b : Bool} : bI b = 0 ↔ b = false := by
  cases b <;> decide
theorem bI_n0 {b : Bool} : ¬ bI b = 0 ↔ b = true := by
  cases b <;> decide
/-- what a call that makes a matrix answers, and the whole array behind it -/
def spR (ok : Bool) (b : Nat → Int32) : Int32 := if ok = true then nI (ct b 36) else -1
def spS (ok : Bool) (a : Nat → Int32) (t : Int32) (b : Nat → Int32) : Nat → Int32 := if ok = true then putm a t.toNatClampNeg b else a
def cN (x : Int32) : Nat := x.toNatClampNeg
theorem cN_nI {n : Nat} (h : n < 2 ^ 31) : cN (nI n) = n := nI_clamp h
def mAdd (a : Nat → Int32) (x y : Int32) : Nat → Int32 := fun c => sl a (cN x) c + sl a (cN y) c
def mMul (a : Nat → Int32) (x y : Int32) : Nat → Int32 := fun c => sl a (cN x) c * sl a (cN y) c
/-- an entry of a product -/
def en (f g : Nat → Int32) (i j : Nat) : Int32 := sm (fun k => f (6 * i + k) * g (6 * k + j)) 6
def mPro (a : Nat → Int32) (x y : Int32) : Nat → Int32 := fun c => en (sl a (cN x)) (sl a (cN y)) (c / 6) (c % 6)
def mMsk (a : Nat → Int32) (x y z : Int32) : Nat → Int32 := fun c => if sl a (cN z) c = 0 then 0 else en (sl a (cN x)) (sl a (cN y)) (c / 6) (c % 6)
def mTra (a : Nat → Int32) (x : Int32) : Nat → Int32 := fun c => sl a (cN x) (6 * (c % 6) + c / 6)
def mSca (a : Nat → Int32) (x k : Int32) : Nat → Int32 := fun c => sl a (cN x) c * k
/-- bit k of p: 0 or 1 -/
def bt1 (p : Int32) (k : Nat) : Int32 := (p >>> (nI k &&& 31)) &&& 1
theorem bt1_01 (p : Int32) (k : Nat) : bt1 p k = 0 ∨ bt1 p k = 1 := by
  obtain ⟨j, hj, h⟩ := pk_andE (p >>> (nI k &&& 31)) (m := 1) 1 (by decide)
  have : j = 0 ∨ j = 1 := by omega
  rcases this with rfl | rfl
  · exact Or.inl h
  · exact Or.inr h
def mSel (a : Nat → Int32) (x p : Int32) : Nat → Int32 := fun c => if bt1 p (c / 6) = 1 ∧ bt1 p (6 + c % 6) = 1 then sl a (cN x) c else 0
def vPutR (s i j : Int32) : Int32 := bI (okb 5 s && okb 6 i && okb 6 j)
def vPutS (a : Nat → Int32) (s i j v : Int32) : Nat → Int32 := if (okb 5 s && okb 6 i && okb 6 j) = true then upd a (36 * cN s + 6 * cN i + cN j) v else a
def vAt (a : Nat → Int32) (s i j : Int32) : Int32 := if (okb 5 s && okb 6 i && okb 6 j) = true then a (36 * cN s + 6 * cN i + cN j) else 0
def vCnt (a : Nat → Int32) (s : Int32) : Int32 := if okb 5 s = true then nI (ct (sl a (cN s)) 36) else -1
/-- the first place from k on, of n, that isn't 0 and isn't below j -/
def nx (f : Nat → Int32) (j : Int32) : Nat → Nat → Int32
  | 0, _ => -1
  | n + 1, k => if j ≤ nI k ∧ f k ≠ 0 then nI k else nx f j n (k + 1)
def vNxt (a : Nat → Int32) (s i j : Int32) : Int32 := if (okb 5 s && okb 6 i) = true then nx (fun k => sl a (cN s) (6 * cN i + k)) j 6 0 else -1
def vRow (a : Nat → Int32) (x i y j : Int32) : Int32 := if (okb 5 x && okb 6 i && okb 5 y && okb 6 j) = true then sm (fun k => sl a (cN x) (6 * cN i + k) * sl a (cN y) (6 * cN j + k)) 6 else 0
def okSum (s w i : Int32) : Bool := okb 5 s && decide (¬ w < 0) && decide (¬ 2 < w) && (decide (w = 2) || okb 6 i)
def vSum (a : Nat → Int32) (s w i : Int32) : Int32 := if okSum s w i = true then sm (fun k => if w = 0 then sl a (cN s) (6 * cN i + k) else if w = 1 then sl a (cN s) (6 * k + cN i) else sl a (cN s) (6 * k + k)) 6 else 0
def vSam (a : Nat → Int32) (x y : Int32) : Int32 := bI (okb 5 x && okb 5 y && (List.range 36).all (fun c => decide (sl a (cN x) c = sl a (cN y) c)))
def vSym (a : Nat → Int32) (s : Int32) : Int32 := bI (okb 5 s && (List.range 36).all (fun c => decide (sl a (cN s) (6 * (c / 6) + c % 6) = sl a (cN s) (6 * (c % 6) + c / 6))))
theorem sm_s (h : Nat → Int32) (n : Nat) : sm h (n + 1) = sm h n + h n := rfl
theorem sm_run {h : Nat → Int32} {m n : Nat} (hmn : m ≤ n) (hz : ∀ k, m ≤ k → k < n → h k = 0) : sm h n = sm h m := by
  induction n with
  | zero => rw [show m = 0 by omega]
  | succ n ih =>
    rcases Nat.eq_or_lt_of_le hmn with h1 | h1
    · rw [h1]
    · rw [sm_s, hz n (by omega) (by omega), Int32.add_zero]
      exact ih (by omega) (fun k a b => hz k a (by omega))
theorem sm_congr {h g : Nat → Int32} {n : Nat} (e : ∀ k, k < n → h k = g k) : sm h n = sm g n := by
  induction n with
  | zero => rfl
  | succ n ih => rw [sm_s, sm_s, ih (fun k hk => e k (by omega)), e n (by omega)]
theorem nx_hit {f : Nat → Int32} {j : Int32} {k : Nat} (h1 : j ≤ nI k) (h2 : f k ≠ 0) : ∀ (n k0 : Nat), k0 ≤ k → k < k0 + n → (∀ d, k0 ≤ d → d < k → ¬ (j ≤ nI d ∧ f d ≠ 0)) → nx f j n k0 = nI k := by
  intro n
  induction n with
  | zero => intro k0 a b; omega
  | succ n ih =>
    intro k0 a b hd
    show (if j ≤ nI k0 ∧ f k0 ≠ 0 then nI k0 else nx f j n (k0 + 1)) = nI k
    rcases Nat.eq_or_lt_of_le a with h | h
    · rw [h, if_pos ⟨h1, h2⟩]
    · rw [if_neg (hd k0 (Nat.le_refl _) h)]
      exact ih (k0 + 1) h (by omega) (fun d x y => hd d (by omega) y)
theorem nx_miss {f : Nat → Int32} {j : Int32} : ∀ (n k0 : Nat), (∀ d, k0 ≤ d → d < k0 + n → ¬ (j ≤ nI d ∧ f d ≠ 0)) → nx f j n k0 = -1 := by
  intro n
  induction n with
  | zero => intro k0 _; rfl
  | succ n ih =>
    intro k0 hd
    show (if j ≤ nI k0 ∧ f k0 ≠ 0 then nI k0 else nx f j n (k0 + 1)) = -1
    rw [if_neg (hd k0 (Nat.le_refl _) (by omega))]
    exact ih (k0 + 1) (fun d x y => hd d (by omega) (by omega))
section XB2
variable {p : Program} {l : Launch} {e : Env} {R : Room} {s : State} {m : MethodId} {args : Array Value} {below : List Frame} {meth : Method} {c : Code} {cells slots : Nat} {Q : State → Prop}
variable {cc : ByteArray} {pc nL dR : Nat} {st : List Value} {lv : List Value} {D : va_G} {A : Nat → Prop} {tys : List (ClassId × FieldType)} {ws : va_W} {own : String}
theorem x_if_eqB (K : XC p R s m args c cells slots D A tys nL cc own dR) {b : Bool} {off : Int} (tgt : Nat) (hdg : decode cc pc = .ok (.ifCond .eq off, 3)) (ht : (pc : Int) + off = (tgt : Int)) (kt : b = false → XW p l e R s m args below meth c cells slots Q D A nL ws tgt lv st) (kf : b = true → XW p l e R s m args below meth c cells slots Q D A nL ws (pc + 3) lv st) : XW p l e R s m args below meth c cells slots Q D A nL ws pc lv (.int (bI b) :: st) :=
  x_if_eq K tgt hdg ht (fun q => kt (bI_0.mp q)) (fun q => kf (bI_n0.mp q))
theorem x_if_neB (K : XC p R s m args c cells slots D A tys nL cc own dR) {b : Bool} {off : Int} (tgt : Nat) (hdg : decode cc pc = .ok (.ifCond .ne off, 3)) (ht : (pc : Int) + off = (tgt : Int)) (kt : b = true → XW p l e R s m args below meth c cells slots Q D A nL ws tgt lv st) (kf : b = false → XW p l e R s m args below meth c cells slots Q D A nL ws (pc + 3) lv st) : XW p l e R s m args below meth c cells slots Q D A nL ws pc lv (.int (bI b) :: st) :=
  x_if_ne K tgt hdg ht (fun q => kt (bI_n0.mp q)) (fun q => kf (bI_0.mp q))
end XB2
end
section
set_option maxRecDepth 100000
/-! SparseKernels: the leaves: isSlot, isIndex, from, upTo, begin, emit, endRow, clearWork, store -/
set_option maxHeartbeats 4000000 in
theorem ctX_isSlot (l : Launch) {D : va_G} {tys : List (ClassId × FieldType)} {ws : va_W} {x : Int32} : CtI l yX0_isSlot cX0_isSlot 1 (some .boolean) 0 D tys [.int x] (ws) (fun r (_ : Unit) => r = bI (okb 5 x)) (fun _ => ws) := by
  refine x_enterI (own := RX0) (by decide) rfl (Nat.le_of_ble_eq_true rfl) (by simp [Value.category]) ?_
  intro p e s m args below meth c A K hr hlocks
  refine x_iload_n K dX0_isSlot_0 rfl ?_
  refine x_if_lt K 13 dX0_isSlot_1 (by decide) (fun h => ?_) (fun h => ?_)
  · skip
    refine x_iconst K (nI 0) dX0_isSlot_13 (by decide) ?_
    exact x_zret K hr hlocks dX0_isSlot_14 () (rfl) (by rw [okb_neg h]; rfl) (Or.inl rfl)
  · skip
    obtain ⟨j, hj, rfl⟩ := nI_of h
    refine x_iload_n K dX0_isSlot_4 rfl ?_
    refine x_iconst K (nI 5) dX0_isSlot_5 (by decide) ?_
    refine x_cmpN_ge K 13 dX0_isSlot_6 (by decide) (by omega) (by omega) (fun h2 => ?_) (fun h2 => ?_)
    · skip
      refine x_iconst K (nI 0) dX0_isSlot_13 (by decide) ?_
      exact x_zret K hr hlocks dX0_isSlot_14 () (rfl) (by rw [okb_nI hj, decide_eq_false (by omega)]; rfl) (Or.inl rfl)
    · skip
      refine x_iconst K (nI 1) dX0_isSlot_9 (by decide) ?_
      refine x_goto K 14 dX0_isSlot_10 (by decide) ?_
      exact x_zret K hr hlocks dX0_isSlot_14 () (rfl) (by rw [okb_nI hj, decide_eq_true (by omega)]; rfl) (Or.inr rfl)
theorem caX_isSlot {p : Program} {l : Launch} {e : Env} {R : Room} {s : State} {m : MethodId} {args : Array Value} {below : List Frame} {meth : Method} {c : Code} {cells slots : Nat} {Q : State → Prop} {cc : ByteArray} {pc nL dR : Nat} {st : List Value} {lv : List Value} {A : Nat → Prop} {D : va_G} {tys : List (ClassId × FieldType)} {ws : va_W} (K : XC p R s m args c cells slots D A tys nL cc RX0 dR) (hdR : 1 ≤ dR) {x : Int32} (hroom : (st.map fun v => v.category).sum ≤ 8) (hdg : decode cc pc = .ok (.invokestatic 40, 3)) (kk : XW p l e R s m args below meth c cells slots Q D A nL ws (pc + 3) lv (.int (bI (okb 5 x)) :: st)) : XW p l e R s m args below meth c cells slots Q D A nL (ws) pc lv (.int x :: st) :=
  x_callS (n := 1) K (ctX_isSlot l (x := x)) q59 q60 q18 q61 (by decide +kernel) hdR (by decide) rfl rfl hroom hdg (fun r _ h => by rw [h]; exact kk)
set_option maxHeartbeats 4000000 in
theorem ctX_isIndex (l : Launch) {D : va_G} {tys : List (ClassId × FieldType)} {ws : va_W} {x : Int32} : CtI l yX0_isIndex cX0_isIndex 1 (some .boolean) 0 D tys [.int x] (ws) (fun r (_ : Unit) => r = bI (okb 6 x)) (fun _ => ws) := by
  refine x_enterI (own := RX0) (by decide) rfl (Nat.le_of_ble_eq_true rfl) (by simp [Value.category]) ?_
  intro p e s m args below meth c A K hr hlocks
  refine x_iload_n K dX0_isIndex_0 rfl ?_
  refine x_if_lt K 14 dX0_isIndex_1 (by decide) (fun h => ?_) (fun h => ?_)
  · skip
    refine x_iconst K (nI 0) dX0_isIndex_14 (by decide) ?_
    exact x_zret K hr hlocks dX0_isIndex_15 () (rfl) (by rw [okb_neg h]; rfl) (Or.inl rfl)
  · skip
    obtain ⟨j, hj, rfl⟩ := nI_of h
    refine x_iload_n K dX0_isIndex_4 rfl ?_
    refine x_bipush K (nI 6) dX0_isIndex_5 (by decide) ?_
    refine x_cmpN_ge K 14 dX0_isIndex_7 (by decide) (by omega) (by omega) (fun h2 => ?_) (fun h2 => ?_)
    · skip
      refine x_iconst K (nI 0) dX0_isIndex_14 (by decide) ?_
      exact x_zret K hr hlocks dX0_isIndex_15 () (rfl) (by rw [okb_nI hj, decide_eq_false (by omega)]; rfl) (Or.inl rfl)
    · skip
      refine x_iconst K (nI 1) dX0_isIndex_10 (by decide) ?_
      refine x_goto K 15 dX0_isIndex_11 (by decide) ?_
      exact x_zret K hr hlocks dX0_isIndex_15 () (rfl) (by rw [okb_nI hj, decide_eq_true (by omega)]; rfl) (Or.inr rfl)
theorem caX_isIndex {p : Program} {l : Launch} {e : Env} {R : Room} {s : State} {m : MethodId} {args : Array Value} {below : List Frame} {meth : Method} {c : Code} {cells slots : Nat} {Q : State → Prop} {cc : ByteArray} {pc nL dR : Nat} {st : List Value} {lv : List Value} {A : Nat → Prop} {D : va_G} {tys : List (ClassId × FieldType)} {ws : va_W} (K : XC p R s m args c cells slots D A tys nL cc RX0 dR) (hdR : 1 ≤ dR) {x : Int32} (hroom : (st.map fun v => v.category).sum ≤ 8) (hdg : decode cc pc = .ok (.invokestatic 44, 3)) (kk : XW p l e R s m args below meth c cells slots Q D A nL ws (pc + 3) lv (.int (bI (okb 6 x)) :: st)) : XW p l e R s m args below meth c cells slots Q D A nL (ws) pc lv (.int x :: st) :=
  x_callS (n := 1) K (ctX_isIndex l (x := x)) q62 q63 q18 q64 (by decide +kernel) hdR (by decide) rfl rfl hroom hdg (fun r _ h => by rw [h]; exact kk)
set_option maxHeartbeats 4000000 in
theorem ctX_from (l : Launch) {D : va_G} {ad : Nat → Nat} {bd : Nat → ClassId} {S C V NS NC NV : Nat → Int32} {mk : Nat} {Wk : Nat → Int32} {x i v : Nat} (hx : x < 5) (hi : i < 6) (hv : S (7 * x + i) = nI v) : CtI l yX0_from cX0_from 3 (some .int) 0 D (tyX bd) [.ref (ad 0), .int (nI x), .int (nI i)] (wX ad bd S C V NS NC NV mk Wk) (fun r (_ : Unit) => r = nI (36 * x + v)) (fun _ => wX ad bd S C V NS NC NV mk Wk) := by
  refine x_enterI (own := RX0) (by decide) rfl (Nat.le_of_ble_eq_true rfl) (by simp [Value.category]) ?_
  intro p e s m args below meth c A K hr hlocks
  refine x_iload_n K dX0_from_0 rfl ?_
  refine x_bipush K (nI 36) dX0_from_1 (by decide) ?_
  refine x_imulN K dX0_from_3 ?_
  refine x_aload_n K dX0_from_4 rfl ?_
  refine gtS K dX0_from_5 ?_
  refine x_iload_n K dX0_from_8 rfl ?_
  refine x_bipush K (nI 7) dX0_from_9 (by decide) ?_
  refine x_imulN K dX0_from_11 ?_
  refine x_iload_n K dX0_from_12 rfl ?_
  refine x_iaddN K dX0_from_13 ?_
  refine ldS K (7 * x + i) (by omega) (by omega) (x := (nI v)) (hv) dX0_from_14 ?_
  refine x_iaddN K dX0_from_15 ?_
  exact x_iret K hr hlocks dX0_from_16 () (rfl) (by rw [Nat.mul_comm x 36])
set_option maxHeartbeats 4000000 in
theorem ctX_upTo (l : Launch) {D : va_G} {ad : Nat → Nat} {bd : Nat → ClassId} {S C V NS NC NV : Nat → Int32} {mk : Nat} {Wk : Nat → Int32} {x i v : Nat} (hx : x < 5) (hi : i < 6) (hv : S (7 * x + (i + 1)) = nI v) : CtI l yX0_upTo cX0_upTo 3 (some .int) 0 D (tyX bd) [.ref (ad 0), .int (nI x), .int (nI i)] (wX ad bd S C V NS NC NV mk Wk) (fun r (_ : Unit) => r = nI (36 * x + v)) (fun _ => wX ad bd S C V NS NC NV mk Wk) := by
  refine x_enterI (own := RX0) (by decide) rfl (Nat.le_of_ble_eq_true rfl) (by simp [Value.category]) ?_
  intro p e s m args below meth c A K hr hlocks
  refine x_iload_n K dX0_upTo_0 rfl ?_
  refine x_bipush K (nI 36) dX0_upTo_1 (by decide) ?_
  refine x_imulN K dX0_upTo_3 ?_
  refine x_aload_n K dX0_upTo_4 rfl ?_
  refine gtS K dX0_upTo_5 ?_
  refine x_iload_n K dX0_upTo_8 rfl ?_
  refine x_bipush K (nI 7) dX0_upTo_9 (by decide) ?_
  refine x_imulN K dX0_upTo_11 ?_
  refine x_iload_n K dX0_upTo_12 rfl ?_
  refine x_iaddN K dX0_upTo_13 ?_
  refine x_iconst K (nI 1) dX0_upTo_14 (by decide) ?_
  refine x_iaddN K dX0_upTo_15 ?_
  refine ldS K (7 * x + (i + 1)) (by omega) (by omega) (x := (nI v)) (hv) dX0_upTo_16 ?_
  refine x_iaddN K dX0_upTo_17 ?_
  exact x_iret K hr hlocks dX0_upTo_18 () (rfl) (by rw [Nat.mul_comm x 36])
theorem caX_from {p : Program} {l : Launch} {e : Env} {R : Room} {s : State} {m : MethodId} {args : Array Value} {below : List Frame} {meth : Method} {c : Code} {cells slots : Nat} {Q : State → Prop} {cc : ByteArray} {pc nL dR : Nat} {st : List Value} {lv : List Value} {A : Nat → Prop} {D : va_G} {ad : Nat → Nat} {bd : Nat → ClassId} {S C V NS NC NV : Nat → Int32} {mk : Nat} {Wk : Nat → Int32} (K : XC p R s m args c cells slots D A (tyX bd) nL cc RX0 dR) (hdR : 1 ≤ dR) {x i : Nat} {f : Nat → Int32} (h : RepS S C V x f) (hx : x < 5) (hi : i < 6) (hroom : (st.map fun v => v.category).sum ≤ 8) (hdg : decode cc pc = .ok (.invokevirtual 53, 3)) (kk : XW p l e R s m args below meth c cells slots Q D A nL (wX ad bd S C V NS NC NV mk Wk) (pc + 3) lv (.int (nI (36 * x + ct f (6 * i))) :: st)) : XW p l e R s m args below meth c cells slots Q D A nL (wX ad bd S C V NS NC NV mk Wk) pc lv (.int (nI i) :: .int (nI x) :: .ref (ad 0) :: st) :=
  x_callI (n := 2) K (ctX_from l hx hi (rep_from h hi)) q73 q75 qs2 q18 q76 (by decide +kernel) hdR (by decide) rfl rfl rfl rfl hroom hdg (fun r _ h => by rw [h]; exact kk)
theorem caX_upTo {p : Program} {l : Launch} {e : Env} {R : Room} {s : State} {m : MethodId} {args : Array Value} {below : List Frame} {meth : Method} {c : Code} {cells slots : Nat} {Q : State → Prop} {cc : ByteArray} {pc nL dR : Nat} {st : List Value} {lv : List Value} {A : Nat → Prop} {D : va_G} {ad : Nat → Nat} {bd : Nat → ClassId} {S C V NS NC NV : Nat → Int32} {mk : Nat} {Wk : Nat → Int32} (K : XC p R s m args c cells slots D A (tyX bd) nL cc RX0 dR) (hdR : 1 ≤ dR) {x i : Nat} {f : Nat → Int32} (h : RepS S C V x f) (hx : x < 5) (hi : i < 6) (hroom : (st.map fun v => v.category).sum ≤ 8) (hdg : decode cc pc = .ok (.invokevirtual 57, 3)) (kk : XW p l e R s m args below meth c cells slots Q D A nL (wX ad bd S C V NS NC NV mk Wk) (pc + 3) lv (.int (nI (36 * x + ct f (6 * i + 6))) :: st)) : XW p l e R s m args below meth c cells slots Q D A nL (wX ad bd S C V NS NC NV mk Wk) pc lv (.int (nI i) :: .int (nI x) :: .ref (ad 0) :: st) :=
  x_callI (n := 2) K (ctX_upTo l hx hi (rep_up h hi)) q77 q79 qs3 q18 q80 (by decide +kernel) hdR (by decide) rfl rfl rfl rfl hroom hdg (fun r _ h => by rw [h]; exact kk)
set_option maxHeartbeats 4000000 in
theorem ctX_begin (l : Launch) {D : va_G} {ad : Nat → Nat} {bd : Nat → ClassId} {S C V NS NC NV : Nat → Int32} {mk : Nat} {Wk : Nat → Int32}  : CtV l yX0_begin cX0_begin 1 0 D (tyX bd) [.ref (ad 0)] (wX ad bd S C V NS NC NV mk Wk) (fun (_ : Unit) => True) (fun _ => wX ad bd S C V (upd NS 0 (nI 0)) NC NV 0 Wk) := by
  refine x_enterV (own := RX0) (by decide) rfl (Nat.le_of_ble_eq_true rfl) (by simp [Value.category]) ?_
  intro p e s m args below meth c A K hr hlocks
  refine x_aload_n K dX0_begin_0 rfl ?_
  refine x_iconst K (nI 0) dX0_begin_1 (by decide) ?_
  refine ptmk K dX0_begin_2 ?_
  refine x_aload_n K dX0_begin_5 rfl ?_
  refine gtNS K dX0_begin_6 ?_
  refine x_iconst K (nI 0) dX0_begin_9 (by decide) ?_
  refine x_iconst K (nI 0) dX0_begin_10 (by decide) ?_
  refine stNS K (0) (rfl) (by omega) (by omega) dX0_begin_11 ?_
  exact x_vret K hr hlocks dX0_begin_12 () (rfl) (trivial)
theorem caX_begin {p : Program} {l : Launch} {e : Env} {R : Room} {s : State} {m : MethodId} {args : Array Value} {below : List Frame} {meth : Method} {c : Code} {cells slots : Nat} {Q : State → Prop} {cc : ByteArray} {pc nL dR : Nat} {st : List Value} {lv : List Value} {A : Nat → Prop} {D : va_G} {ad : Nat → Nat} {bd : Nat → ClassId} {S C V NS NC NV : Nat → Int32} {mk : Nat} {Wk : Nat → Int32} (K : XC p R s m args c cells slots D A (tyX bd) nL cc RX0 dR) (hdR : 1 ≤ dR)  (hroom : (st.map fun v => v.category).sum ≤ 8) (hdg : decode cc pc = .ok (.invokevirtual 47, 3)) (kk : XW p l e R s m args below meth c cells slots Q D A nL (wX ad bd S C V (upd NS 0 (nI 0)) NC NV 0 Wk) (pc + 3) lv st) : XW p l e R s m args below meth c cells slots Q D A nL (wX ad bd S C V NS NC NV mk Wk) pc lv (.ref (ad 0) :: st) :=
  x_callV (n := 0) K (ctX_begin l ) q65 q67 qs0 q18 q68 (by decide +kernel) hdR (by decide) rfl rfl rfl rfl hroom hdg (fun _ _ => kk)
set_option maxHeartbeats 4000000 in
theorem ctX_emit (l : Launch) {D : va_G} {ad : Nat → Nat} {bd : Nat → ClassId} {S C V NS NC NV : Nat → Int32} {mk : Nat} {Wk : Nat → Int32} {b : Nat → Int32} {k n : Nat} {v : Int32} (hM : Mk b n NC NV mk) (hn : n < 36) (hk : k = n % 6) (hv : v = b n) : CtV l yX0_emit cX0_emit 3 0 D (tyX bd) [.ref (ad 0), .int (nI k), .int v] (wX ad bd S C V NS NC NV mk Wk) (fun (u : (Nat → Int32) × (Nat → Int32) × Nat) => Mk b (n + 1) u.1 u.2.1 u.2.2) (fun u => wX ad bd S C V NS u.1 u.2.1 u.2.2 Wk) := by
  refine x_enterV (own := RX0) (by decide) rfl (Nat.le_of_ble_eq_true rfl) (by simp [Value.category]) ?_
  intro p e s m args below meth c A K hr hlocks
  have hmk := hM.1
  have hle := ct_le b n
  subst hk
  refine x_iload_n K dX0_emit_0 rfl ?_
  refine x_if_eq K 35 dX0_emit_1 (by decide) (fun h => ?_) (fun h => ?_)
  · skip
    exact x_vret K hr hlocks dX0_emit_35 (NC, NV, mk) (rfl) (mk_emit0 hM (hv.symm.trans h))
  · skip
    subst hv
    refine x_aload_n K dX0_emit_4 rfl ?_
    refine gtNC K dX0_emit_5 ?_
    refine x_aload_n K dX0_emit_8 rfl ?_
    refine gtmk K dX0_emit_9 ?_
    refine x_iload_n K dX0_emit_12 rfl ?_
    refine x_i2bN K dX0_emit_13 (by omega) ?_
    refine stNC K (mk) (rfl) (by omega) (by omega) dX0_emit_14 ?_
    refine x_aload_n K dX0_emit_15 rfl ?_
    refine gtNV K dX0_emit_16 ?_
    refine x_aload_n K dX0_emit_19 rfl ?_
    refine gtmk K dX0_emit_20 ?_
    refine x_iload_n K dX0_emit_23 rfl ?_
    refine stNV K (mk) (rfl) (by omega) dX0_emit_24 ?_
    refine x_aload_n K dX0_emit_25 rfl ?_
    refine x_dup K dX0_emit_26 rfl ?_
    refine gtmk K dX0_emit_27 ?_
    refine x_iconst K (nI 1) dX0_emit_30 (by decide) ?_
    refine x_iaddN K dX0_emit_31 ?_
    refine ptmk K dX0_emit_32 ?_
    exact x_vret K hr hlocks dX0_emit_35 (upd NC mk (nI (n % 6)), upd NV mk (b n), mk + 1) (rfl) (mk_emit hM h)
theorem caX_emit {p : Program} {l : Launch} {e : Env} {R : Room} {s : State} {m : MethodId} {args : Array Value} {below : List Frame} {meth : Method} {c : Code} {cells slots : Nat} {Q : State → Prop} {cc : ByteArray} {pc nL dR : Nat} {st : List Value} {lv : List Value} {A : Nat → Prop} {D : va_G} {ad : Nat → Nat} {bd : Nat → ClassId} {S C V NS NC NV : Nat → Int32} {mk : Nat} {Wk : Nat → Int32} (K : XC p R s m args c cells slots D A (tyX bd) nL cc RX0 dR) (hdR : 1 ≤ dR) (b : Nat → Int32) (n : Nat) {k : Nat} {v : Int32} (hM : Mk b n NC NV mk) (hn : n < 36) (hk : k = n % 6) (hv : v = b n) (hroom : (st.map fun v => v.category).sum ≤ 8) (hdg : decode cc pc = .ok (.invokevirtual 36, 3)) (kk : ∀ (NC NV : Nat → Int32) (mk : Nat), Mk b (n + 1) NC NV mk → XW p l e R s m args below meth c cells slots Q D A nL (wX ad bd S C V NS NC NV mk Wk) (pc + 3) lv st) : XW p l e R s m args below meth c cells slots Q D A nL (wX ad bd S C V NS NC NV mk Wk) pc lv (.int v :: .int (nI k) :: .ref (ad 0) :: st) :=
  x_callV (n := 2) K (ctX_emit l hM hn hk hv) q85 q87 qs5 q18 q88 (by decide +kernel) hdR (by decide) rfl rfl rfl rfl hroom hdg (fun u h => kk u.1 u.2.1 u.2.2 h)
set_option maxHeartbeats 4000000 in
theorem ctX_endRow (l : Launch) {D : va_G} {ad : Nat → Nat} {bd : Nat → ClassId} {S C V NS NC NV : Nat → Int32} {mk : Nat} {Wk : Nat → Int32} {b : Nat → Int32} {i : Nat} (hN : NSok b i NS) (hi : i < 6) (hmk : mk = ct b (6 * i + 6)) : CtV l yX0_endRow cX0_endRow 2 0 D (tyX bd) [.ref (ad 0), .int (nI i)] (wX ad bd S C V NS NC NV mk Wk) (fun (u : Nat → Int32) => NSok b (i + 1) u) (fun u => wX ad bd S C V u NC NV mk Wk) := by
  refine x_enterV (own := RX0) (by decide) rfl (Nat.le_of_ble_eq_true rfl) (by simp [Value.category]) ?_
  intro p e s m args below meth c A K hr hlocks
  have hle := ct_le b (6 * i + 6)
  refine x_aload_n K dX0_endRow_0 rfl ?_
  refine gtNS K dX0_endRow_1 ?_
  refine x_iload_n K dX0_endRow_4 rfl ?_
  refine x_iconst K (nI 1) dX0_endRow_5 (by decide) ?_
  refine x_iaddN K dX0_endRow_6 ?_
  refine x_aload_n K dX0_endRow_7 rfl ?_
  refine gtmk K dX0_endRow_8 ?_
  refine x_i2bN K dX0_endRow_11 (by omega) ?_
  refine stNS K (i + 1) (rfl) (by omega) (by omega) dX0_endRow_12 ?_
  exact x_vret K hr hlocks dX0_endRow_13 (upd NS (i + 1) (nI mk)) (rfl) (by rw [hmk]; exact ns_s hN)
theorem caX_endRow {p : Program} {l : Launch} {e : Env} {R : Room} {s : State} {m : MethodId} {args : Array Value} {below : List Frame} {meth : Method} {c : Code} {cells slots : Nat} {Q : State → Prop} {cc : ByteArray} {pc nL dR : Nat} {st : List Value} {lv : List Value} {A : Nat → Prop} {D : va_G} {ad : Nat → Nat} {bd : Nat → ClassId} {S C V NS NC NV : Nat → Int32} {mk : Nat} {Wk : Nat → Int32} (K : XC p R s m args c cells slots D A (tyX bd) nL cc RX0 dR) (hdR : 1 ≤ dR) {b : Nat → Int32} {i : Nat} (hN : NSok b i NS) (hi : i < 6) (hmk : mk = ct b (6 * i + 6)) (hroom : (st.map fun v => v.category).sum ≤ 8) (hdg : decode cc pc = .ok (.invokevirtual 63, 3)) (kk : ∀ (NS : Nat → Int32), NSok b (i + 1) NS → XW p l e R s m args below meth c cells slots Q D A nL (wX ad bd S C V NS NC NV mk Wk) (pc + 3) lv st) : XW p l e R s m args below meth c cells slots Q D A nL (wX ad bd S C V NS NC NV mk Wk) pc lv (.int (nI i) :: .ref (ad 0) :: st) :=
  x_callV (n := 1) K (ctX_endRow l hN hi hmk) q89 q91 qs6 q18 q92 (by decide +kernel) hdR (by decide) rfl rfl rfl rfl hroom hdg (fun u h => kk u h)
set_option maxHeartbeats 4000000 in
theorem ctX_clearWork (l : Launch) {D : va_G} {ad : Nat → Nat} {bd : Nat → ClassId} {S C V NS NC NV : Nat → Int32} {mk : Nat} {Wk : Nat → Int32}  : CtV l yX0_clearWork cX0_clearWork 2 0 D (tyX bd) [.ref (ad 0)] (wX ad bd S C V NS NC NV mk Wk) (fun (u : Nat → Int32) => ∀ j, j < 6 → u j = 0) (fun u => wX ad bd S C V NS NC NV mk u) := by
  refine x_enterV (own := RX0) (by decide) rfl (Nat.le_of_ble_eq_true rfl) (by simp [Value.category]) ?_
  intro p e s m args below meth c A K hr hlocks
  refine x_iconst K (nI 0) dX0_clearWork_0 (by decide) ?_
  refine x_istore_n K [.ref (ad 0), .int (nI 0)] dX0_clearWork_1 (by decide) (Nat.le_of_ble_eq_true rfl) rfl ?_
  have key : ∀ (n i : Nat) (Wk : Nat → Int32), i + n = 6 → (∀ j, j < i → Wk j = 0) → XW p l e (rD 0) s m args below meth c 0 0 (XQv below args s D (tyX bd) A (fun (u : Nat → Int32) => ∀ j, j < 6 → u j = 0) (fun u => wX ad bd S C V NS NC NV mk u)) D A 2 (wX ad bd S C V NS NC NV mk Wk) 2 [.ref (ad 0), .int (nI i)] [] := by
    intro n
    induction n with
    | zero =>
      intro i Wk hi hz
      refine x_iload_n K dX0_clearWork_2 rfl ?_
      refine x_bipush K (nI 6) dX0_clearWork_3 (by decide) ?_
      refine x_cmpN_ge K 21 dX0_clearWork_5 (by decide) (by omega) (by omega) (fun _ => ?_) (fun q => absurd q (by omega))
      exact x_vret K hr hlocks dX0_clearWork_21 Wk (rfl) (fun j hj => hz j (by omega))
    | succ n ih =>
      intro i Wk hi hz
      refine x_iload_n K dX0_clearWork_2 rfl ?_
      refine x_bipush K (nI 6) dX0_clearWork_3 (by decide) ?_
      refine x_cmpN_ge K 21 dX0_clearWork_5 (by decide) (by omega) (by omega) (fun q => absurd q (by omega)) (fun _ => ?_)
      refine x_aload_n K dX0_clearWork_8 rfl ?_
      refine gtWk K dX0_clearWork_9 ?_
      refine x_iload_n K dX0_clearWork_12 rfl ?_
      refine x_iconst K (nI 0) dX0_clearWork_13 (by decide) ?_
      refine stWk K (i) (rfl) (by omega) dX0_clearWork_14 ?_
      refine x_iinc1 K [.ref (ad 0), .int (nI (i + 1))] dX0_clearWork_15 rfl (by decide) (Nat.le_of_ble_eq_true rfl) rfl ?_
      refine x_goto K 2 dX0_clearWork_18 (by decide) ?_
      refine ih (i + 1) _ (by omega) (fun j hj => ?_)
      by_cases hji : j = i
      · rw [hji, pk_us]; rfl
      · rw [pk_un hji]; exact hz j (by omega)
  exact key 6 0 Wk (by omega) (fun j hj => absurd hj (by omega))
theorem caX_clearWork {p : Program} {l : Launch} {e : Env} {R : Room} {s : State} {m : MethodId} {args : Array Value} {below : List Frame} {meth : Method} {c : Code} {cells slots : Nat} {Q : State → Prop} {cc : ByteArray} {pc nL dR : Nat} {st : List Value} {lv : List Value} {A : Nat → Prop} {D : va_G} {ad : Nat → Nat} {bd : Nat → ClassId} {S C V NS NC NV : Nat → Int32} {mk : Nat} {Wk : Nat → Int32} (K : XC p R s m args c cells slots D A (tyX bd) nL cc RX0 dR) (hdR : 1 ≤ dR)  (hroom : (st.map fun v => v.category).sum ≤ 8) (hdg : decode cc pc = .ok (.invokevirtual 50, 3)) (kk : ∀ (Wk : Nat → Int32), (∀ j, j < 6 → Wk j = 0) → XW p l e R s m args below meth c cells slots Q D A nL (wX ad bd S C V NS NC NV mk Wk) (pc + 3) lv st) : XW p l e R s m args below meth c cells slots Q D A nL (wX ad bd S C V NS NC NV mk Wk) pc lv (.ref (ad 0) :: st) :=
  x_callV (n := 0) K (ctX_clearWork l ) q69 q71 qs1 q18 q72 (by decide +kernel) hdR (by decide) rfl rfl rfl rfl hroom hdg (fun u h => kk u h)
set_option maxHeartbeats 4000000 in
theorem ctX_store (l : Launch) {D : va_G} {ad : Nat → Nat} {bd : Nat → ClassId} {S C V NS NC NV : Nat → Int32} {mk : Nat} {Wk : Nat → Int32} {a b : Nat → Int32} {t : Nat} (ht : t < 5) (hM : Mk b 36 NC NV mk) (hN : NSok b 6 NS) (hR : Rep S C V a) : CtI l yX0_store cX0_store 3 (some .int) 0 D (tyX bd) [.ref (ad 0), .int (nI t)] (wX ad bd S C V NS NC NV mk Wk) (fun r (u : (Nat → Int32) × (Nat → Int32) × (Nat → Int32)) => r = nI (ct b 36) ∧ Rep u.1 u.2.1 u.2.2 (putm a t b)) (fun u => wX ad bd u.1 u.2.1 u.2.2 NS NC NV mk Wk) := by
  refine x_enterI (own := RX0) (by decide) rfl (Nat.le_of_ble_eq_true rfl) (by simp [Value.category]) ?_
  intro p e s m args below meth c A K hr hlocks
  have hmk := hM.1
  have hle := ct_le b 36
  have key2 : ∀ (n k : Nat) (S2 C2 V2 : Nat → Int32), k + n = mk → (∀ i, i ≤ 6 → S2 (7 * t + i) = nI (ct b (6 * i))) → (∀ q, (q < 7 * t ∨ 7 * t + 7 ≤ q) → S2 q = S q) → (∀ j, j < k → C2 (36 * t + j) = NC j ∧ V2 (36 * t + j) = NV j) → (∀ q, (q < 36 * t ∨ 36 * t + 36 ≤ q) → C2 q = C q ∧ V2 q = V q) → XW p l e (rD 0) s m args below meth c 0 0 (XQi below args s D (tyX bd) A (fun r (u : (Nat → Int32) × (Nat → Int32) × (Nat → Int32)) => r = nI (ct b 36) ∧ Rep u.1 u.2.1 u.2.2 (putm a t b)) (fun u => wX ad bd u.1 u.2.1 u.2.2 NS NC NV mk Wk)) D A 3 (wX ad bd S2 C2 V2 NS NC NV mk Wk) 33 [.ref (ad 0), .int (nI t), .int (nI k)] [] := by
    intro n
    induction n with
    | zero =>
      intro k S2 C2 V2 hk h1 h2 h3 h4
      refine x_iload_n K dX0_store_33 rfl ?_
      refine x_aload_n K dX0_store_34 rfl ?_
      refine gtmk K dX0_store_35 ?_
      refine x_cmpN_ge K 81 dX0_store_38 (by decide) (by omega) (by omega) (fun _ => ?_) (fun q => absurd q (by omega))
      refine x_aload_n K dX0_store_81 rfl ?_
      refine gtmk K dX0_store_82 ?_
      refine x_iret K hr hlocks dX0_store_85 (S2, C2, V2) rfl ⟨by rw [hmk], rep_store ht hR h1 h2 (fun c hc hb => ?_) h4⟩
      have hlt : ct b c < mk := by rw [hmk]; exact ct_lt hc hb
      have h5 := h3 (ct b c) (by omega)
      exact ⟨h5.1.trans (hM.2 c hc hb).1, h5.2.trans (hM.2 c hc hb).2⟩
    | succ n ih =>
      intro k S2 C2 V2 hk h1 h2 h3 h4
      obtain ⟨c0, hc0, hb0, hcc0, hnc, hnv⟩ := mk_full hM (show k < mk by omega)
      refine x_iload_n K dX0_store_33 rfl ?_
      refine x_aload_n K dX0_store_34 rfl ?_
      refine gtmk K dX0_store_35 ?_
      refine x_cmpN_ge K 81 dX0_store_38 (by decide) (by omega) (by omega) (fun q => absurd q (by omega)) (fun _ => ?_)
      refine x_aload_n K dX0_store_41 rfl ?_
      refine gtC K dX0_store_42 ?_
      refine x_iload_n K dX0_store_45 rfl ?_
      refine x_bipush K (nI 36) dX0_store_46 (by decide) ?_
      refine x_imulN K dX0_store_48 ?_
      refine x_iload_n K dX0_store_49 rfl ?_
      refine x_iaddN K dX0_store_50 ?_
      refine x_aload_n K dX0_store_51 rfl ?_
      refine gtNC K dX0_store_52 ?_
      refine x_iload_n K dX0_store_55 rfl ?_
      refine ldNC K (k) (rfl) (by omega) (x := (nI (c0 % 6))) (hnc) dX0_store_56 ?_
      refine stC K (36 * t + k) (by omega) (by omega) (by omega) dX0_store_57 ?_
      refine x_aload_n K dX0_store_58 rfl ?_
      refine gtV K dX0_store_59 ?_
      refine x_iload_n K dX0_store_62 rfl ?_
      refine x_bipush K (nI 36) dX0_store_63 (by decide) ?_
      refine x_imulN K dX0_store_65 ?_
      refine x_iload_n K dX0_store_66 rfl ?_
      refine x_iaddN K dX0_store_67 ?_
      refine x_aload_n K dX0_store_68 rfl ?_
      refine gtNV K dX0_store_69 ?_
      refine x_iload_n K dX0_store_72 rfl ?_
      refine ldNV K (k) (rfl) (by omega) (x := (NV k)) (rfl) dX0_store_73 ?_
      refine stV K (36 * t + k) (by omega) (by omega) dX0_store_74 ?_
      refine x_iinc1 K [.ref (ad 0), .int (nI t), .int (nI (k + 1))] dX0_store_75 rfl (by decide) (Nat.le_of_ble_eq_true rfl) rfl ?_
      refine x_goto K 33 dX0_store_78 (by decide) ?_
      refine ih (k + 1) _ _ _ (by omega) h1 h2 (fun j hj => ?_) (fun q hq => ?_)
      · by_cases hjk : j = k
        · rw [hjk, pk_us, pk_us]; exact ⟨hnc.symm, rfl⟩
        · rw [pk_un (by omega), pk_un (by omega)]; exact h3 j (by omega)
      · rw [pk_un (by omega), pk_un (by omega)]; exact h4 q hq
  refine x_iconst K (nI 0) dX0_store_0 (by decide) ?_
  refine x_istore_n K [.ref (ad 0), .int (nI t), .int (nI 0)] dX0_store_1 (by decide) (Nat.le_of_ble_eq_true rfl) rfl ?_
  have key1 : ∀ (n i : Nat) (S1 : Nat → Int32), i + n = 7 → (∀ j, j < i → S1 (7 * t + j) = nI (ct b (6 * j))) → (∀ q, (q < 7 * t ∨ 7 * t + 7 ≤ q) → S1 q = S q) → XW p l e (rD 0) s m args below meth c 0 0 (XQi below args s D (tyX bd) A (fun r (u : (Nat → Int32) × (Nat → Int32) × (Nat → Int32)) => r = nI (ct b 36) ∧ Rep u.1 u.2.1 u.2.2 (putm a t b)) (fun u => wX ad bd u.1 u.2.1 u.2.2 NS NC NV mk Wk)) D A 3 (wX ad bd S1 C V NS NC NV mk Wk) 2 [.ref (ad 0), .int (nI t), .int (nI i)] [] := by
    intro n
    induction n with
    | zero =>
      intro i S1 hi h1 h2
      refine x_iload_n K dX0_store_2 rfl ?_
      refine x_bipush K (nI 6) dX0_store_3 (by decide) ?_
      refine x_cmpN_gt K 31 dX0_store_5 (by decide) (by omega) (by omega) (fun _ => ?_) (fun q => absurd q (by omega))
      refine x_iconst K (nI 0) dX0_store_31 (by decide) ?_
      refine x_istore_n K [.ref (ad 0), .int (nI t), .int (nI 0)] dX0_store_32 (by decide) (Nat.le_of_ble_eq_true rfl) rfl ?_
      exact key2 mk 0 S1 C V (by omega) (fun i hi => h1 i (by omega)) h2 (fun j hj => absurd hj (by omega)) (fun q _ => ⟨rfl, rfl⟩)
    | succ n ih =>
      intro i S1 hi h1 h2
      have hle2 := ct_le b (6 * i)
      refine x_iload_n K dX0_store_2 rfl ?_
      refine x_bipush K (nI 6) dX0_store_3 (by decide) ?_
      refine x_cmpN_gt K 31 dX0_store_5 (by decide) (by omega) (by omega) (fun q => absurd q (by omega)) (fun _ => ?_)
      refine x_aload_n K dX0_store_8 rfl ?_
      refine gtS K dX0_store_9 ?_
      refine x_iload_n K dX0_store_12 rfl ?_
      refine x_bipush K (nI 7) dX0_store_13 (by decide) ?_
      refine x_imulN K dX0_store_15 ?_
      refine x_iload_n K dX0_store_16 rfl ?_
      refine x_iaddN K dX0_store_17 ?_
      refine x_aload_n K dX0_store_18 rfl ?_
      refine gtNS K dX0_store_19 ?_
      refine x_iload_n K dX0_store_22 rfl ?_
      refine ldNS K (i) (rfl) (by omega) (x := (nI (ct b (6 * i)))) (hN i (by omega)) dX0_store_23 ?_
      refine stS K (7 * t + i) (by omega) (by omega) (by omega) dX0_store_24 ?_
      refine x_iinc1 K [.ref (ad 0), .int (nI t), .int (nI (i + 1))] dX0_store_25 rfl (by decide) (Nat.le_of_ble_eq_true rfl) rfl ?_
      refine x_goto K 2 dX0_store_28 (by decide) ?_
      refine ih (i + 1) _ (by omega) (fun j hj => ?_) (fun q hq => ?_)
      · by_cases hji : j = i
        · rw [hji, pk_us]
        · rw [pk_un (by omega)]; exact h1 j (by omega)
      · rw [pk_un (by omega)]; exact h2 q hq
  exact key1 7 0 S (by omega) (fun j hj => absurd hj (by omega)) (fun q _ => rfl)
theorem caX_store {p : Program} {l : Launch} {e : Env} {R : Room} {s : State} {m : MethodId} {args : Array Value} {below : List Frame} {meth : Method} {c : Code} {cells slots : Nat} {Q : State → Prop} {cc : ByteArray} {pc nL dR : Nat} {st : List Value} {lv : List Value} {A : Nat → Prop} {D : va_G} {ad : Nat → Nat} {bd : Nat → ClassId} {S C V NS NC NV : Nat → Int32} {mk : Nat} {Wk : Nat → Int32} (K : XC p R s m args c cells slots D A (tyX bd) nL cc RX0 dR) (hdR : 1 ≤ dR) {a b : Nat → Int32} {t : Nat} (ht : t < 5) (hM : Mk b 36 NC NV mk) (hN : NSok b 6 NS) (hR : Rep S C V a) (hroom : (st.map fun v => v.category).sum ≤ 8) (hdg : decode cc pc = .ok (.invokevirtual 67, 3)) (kk : ∀ (S C V : Nat → Int32), Rep S C V (putm a t b) → XW p l e R s m args below meth c cells slots Q D A nL (wX ad bd S C V NS NC NV mk Wk) (pc + 3) lv (.int (nI (ct b 36)) :: st)) : XW p l e R s m args below meth c cells slots Q D A nL (wX ad bd S C V NS NC NV mk Wk) pc lv (.int (nI t) :: .ref (ad 0) :: st) :=
  x_callI (n := 1) K (ctX_store l ht hM hN hR) q93 q95 qs7 q18 q96 (by decide +kernel) hdR (by decide) rfl rfl rfl rfl hroom hdg (fun r u h => by rw [h.1]; exact kk u.1 u.2.1 u.2.2 h.2)
end
section
set_option maxRecDepth 100000
/-! SparseKernels: emitWork, mergeRow, crossRow, productRow, find -/
theorem z_add (x : Int32) : nI 0 + x = x := Int32.zero_add x
set_option maxHeartbeats 4000000 in
theorem ctX_emitWork (l : Launch) {D : va_G} {ad : Nat → Nat} {bd : Nat → ClassId} {S C V NS NC NV : Nat → Int32} {mk : Nat} {Wk : Nat → Int32} {b : Nat → Int32} {g : Nat} (hg : g < 6) (hM : Mk b (6 * g) NC NV mk) (hW : ∀ j, j < 6 → Wk j = b (6 * g + j)) : CtV l yX0_emitWork cX0_emitWork 2 1 D (tyX bd) [.ref (ad 0)] (wX ad bd S C V NS NC NV mk Wk) (fun (u : (Nat → Int32) × (Nat → Int32) × Nat) => Mk b (6 * g + 6) u.1 u.2.1 u.2.2) (fun u => wX ad bd S C V NS u.1 u.2.1 u.2.2 Wk) := by
  refine x_enterV (own := RX0) (by decide) rfl (Nat.le_of_ble_eq_true rfl) (by simp [Value.category]) ?_
  intro p e s m args below meth c A K hr hlocks
  obtain ⟨Q0, hQ0⟩ : ∃ Q0 : State → Prop, Q0 = XQv below args s D (tyX bd) A (fun (u : (Nat → Int32) × (Nat → Int32) × Nat) => Mk b (6 * g + 6) u.1 u.2.1 u.2.2) (fun u => wX ad bd S C V NS u.1 u.2.1 u.2.2 Wk) := ⟨_, rfl⟩
  rw [← hQ0]
  refine x_iconst K (nI 0) dX0_emitWork_0 (by decide) ?_
  refine x_istore_n K [.ref (ad 0), .int (nI 0)] dX0_emitWork_1 (by decide) (Nat.le_of_ble_eq_true rfl) rfl ?_
  have key : ∀ (n : Nat) (i : Nat) (NC NV : Nat → Int32) (mk : Nat), i + n = 6 → Mk b (6 * g + i) NC NV mk → XW p l e (rD 1) s m args below meth c 0 0 Q0 D A 2 (wX ad bd S C V NS NC NV mk Wk) 2 [.ref (ad 0), .int (nI i)] [] := by
    intro n
    induction n with
    | zero =>
      intro i NC NV mk hi hM
      obtain rfl : i = 6 := by omega
      refine x_iload_n K dX0_emitWork_2 rfl ?_
      refine x_bipush K (nI 6) dX0_emitWork_3 (by decide) ?_
      refine x_cmpN_ge K 25 dX0_emitWork_5 (by decide) (by omega) (by omega) (fun _ => ?_) (fun q => absurd q (by omega))
      rw [hQ0]
      exact x_vret K hr hlocks dX0_emitWork_25 (NC, NV, mk) (rfl) (hM)
    | succ n ih =>
      intro i NC NV mk hi hM
      refine x_iload_n K dX0_emitWork_2 rfl ?_
      refine x_bipush K (nI 6) dX0_emitWork_3 (by decide) ?_
      refine x_cmpN_ge K 25 dX0_emitWork_5 (by decide) (by omega) (by omega) (fun q => absurd q (by omega)) (fun _ => ?_)
      refine x_aload_n K dX0_emitWork_8 rfl ?_
      refine x_iload_n K dX0_emitWork_9 rfl ?_
      refine x_aload_n K dX0_emitWork_10 rfl ?_
      refine gtWk K dX0_emitWork_11 ?_
      refine x_iload_n K dX0_emitWork_14 rfl ?_
      refine ldWk K (i) (rfl) (by omega) (x := (b (6 * g + i))) (hW i (by omega)) dX0_emitWork_15 ?_
      refine caX_emit K (by decide) (b) (6 * g + i) (hM) (by omega) (by omega) (rfl) (Nat.le_of_ble_eq_true rfl) dX0_emitWork_16 (fun NC NV mk hM => ?_)
      refine x_iinc1 K [.ref (ad 0), .int (nI (i + 1))] dX0_emitWork_19 rfl (by decide) (Nat.le_of_ble_eq_true rfl) rfl ?_
      refine x_goto K 2 dX0_emitWork_22 (by decide) ?_
      exact ih (i + 1) NC NV mk (by omega) hM
  exact key 6 0 NC NV mk (by omega) hM
theorem caX_emitWork {p : Program} {l : Launch} {e : Env} {R : Room} {s : State} {m : MethodId} {args : Array Value} {below : List Frame} {meth : Method} {c : Code} {cells slots : Nat} {Q : State → Prop} {cc : ByteArray} {pc nL dR : Nat} {st : List Value} {lv : List Value} {A : Nat → Prop} {D : va_G} {ad : Nat → Nat} {bd : Nat → ClassId} {S C V NS NC NV : Nat → Int32} {mk : Nat} {Wk : Nat → Int32} (K : XC p R s m args c cells slots D A (tyX bd) nL cc RX0 dR) (hdR : 2 ≤ dR) {b : Nat → Int32} {g : Nat} (hg : g < 6) (hM : Mk b (6 * g) NC NV mk) (hW : ∀ j, j < 6 → Wk j = b (6 * g + j)) (hroom : (st.map fun v => v.category).sum ≤ 8) (hdg : decode cc pc = .ok (.invokevirtual 60, 3)) (kk : ∀ (NC NV : Nat → Int32) (mk : Nat), Mk b (6 * g + 6) NC NV mk → XW p l e R s m args below meth c cells slots Q D A nL (wX ad bd S C V NS NC NV mk Wk) (pc + 3) lv st) : XW p l e R s m args below meth c cells slots Q D A nL (wX ad bd S C V NS NC NV mk Wk) pc lv (.ref (ad 0) :: st) :=
  x_callV (n := 0) K (ctX_emitWork l hg hM hW) q81 q83 qs4 q18 q84 (by decide +kernel) hdR (by decide) rfl rfl rfl rfl hroom hdg (fun u h => kk u.1 u.2.1 u.2.2 h)
set_option maxHeartbeats 8000000 in
theorem ctX_mergeRow (l : Launch) {D : va_G} {ad : Nat → Nat} {bd : Nat → ClassId} {S C V NS NC NV : Nat → Int32} {mk : Nat} {Wk : Nat → Int32} {b f g : Nat → Int32} {x y i : Nat} (hx : x < 5) (hy : y < 5) (hi : i < 6) (hf : RepS S C V x f) (hg : RepS S C V y g) (hb : ∀ c, c < 36 → b c = f c + g c) (hM : Mk b (6 * i) NC NV mk) : CtV l yX0_mergeRow cX0_mergeRow 12 1 D (tyX bd) [.ref (ad 0), .int (nI x), .int (nI y), .int (nI i)] (wX ad bd S C V NS NC NV mk Wk) (fun (u : (Nat → Int32) × (Nat → Int32) × Nat) => Mk b (6 * i + 6) u.1 u.2.1 u.2.2) (fun u => wX ad bd S C V NS u.1 u.2.1 u.2.2 Wk) := by
  refine x_enterV (own := RX0) (by decide) rfl (Nat.le_of_ble_eq_true rfl) (by simp [Value.category]) ?_
  intro p e s m args below meth c A K hr hlocks
  obtain ⟨Q0, hQ0⟩ : ∃ Q0 : State → Prop, Q0 = XQv below args s D (tyX bd) A (fun (u : (Nat → Int32) × (Nat → Int32) × Nat) => Mk b (6 * i + 6) u.1 u.2.1 u.2.2) (fun u => wX ad bd S C V NS u.1 u.2.1 u.2.2 Wk) := ⟨_, rfl⟩
  rw [← hQ0]
  refine x_aload_n K dX0_mergeRow_0 rfl ?_
  refine x_iload_n K dX0_mergeRow_1 rfl ?_
  refine x_iload_n K dX0_mergeRow_2 rfl ?_
  refine caX_from K (by decide) hf hx hi (Nat.le_of_ble_eq_true rfl) dX0_mergeRow_3 ?_
  refine x_istore K [.ref (ad 0), .int (nI x), .int (nI y), .int (nI i), .int (nI (36 * x + ct f (6 * i)))] dX0_mergeRow_6 (by decide) (Nat.le_of_ble_eq_true rfl) rfl ?_
  refine x_aload_n K dX0_mergeRow_8 rfl ?_
  refine x_iload_n K dX0_mergeRow_9 rfl ?_
  refine x_iload_n K dX0_mergeRow_10 rfl ?_
  refine caX_from K (by decide) hg hy hi (Nat.le_of_ble_eq_true rfl) dX0_mergeRow_11 ?_
  refine x_istore K [.ref (ad 0), .int (nI x), .int (nI y), .int (nI i), .int (nI (36 * x + ct f (6 * i))), .int (nI (36 * y + ct g (6 * i)))] dX0_mergeRow_14 (by decide) (Nat.le_of_ble_eq_true rfl) rfl ?_
  refine x_aload_n K dX0_mergeRow_16 rfl ?_
  refine x_iload_n K dX0_mergeRow_17 rfl ?_
  refine x_iload_n K dX0_mergeRow_18 rfl ?_
  refine caX_upTo K (by decide) hf hx hi (Nat.le_of_ble_eq_true rfl) dX0_mergeRow_19 ?_
  refine x_istore K [.ref (ad 0), .int (nI x), .int (nI y), .int (nI i), .int (nI (36 * x + ct f (6 * i))), .int (nI (36 * y + ct g (6 * i))), .int (nI (36 * x + ct f (6 * i + 6)))] dX0_mergeRow_22 (by decide) (Nat.le_of_ble_eq_true rfl) rfl ?_
  refine x_aload_n K dX0_mergeRow_24 rfl ?_
  refine x_iload_n K dX0_mergeRow_25 rfl ?_
  refine x_iload_n K dX0_mergeRow_26 rfl ?_
  refine caX_upTo K (by decide) hg hy hi (Nat.le_of_ble_eq_true rfl) dX0_mergeRow_27 ?_
  refine x_istore K [.ref (ad 0), .int (nI x), .int (nI y), .int (nI i), .int (nI (36 * x + ct f (6 * i))), .int (nI (36 * y + ct g (6 * i))), .int (nI (36 * x + ct f (6 * i + 6))), .int (nI (36 * y + ct g (6 * i + 6)))] dX0_mergeRow_30 (by decide) (Nat.le_of_ble_eq_true rfl) rfl ?_
  have key : ∀ (n : Nat) (j : Nat) (NC NV : Nat → Int32) (mk : Nat), j ≤ 6 → 6 < j + n → Mk b (6 * i + j) NC NV mk → XW p l e (rD 1) s m args below meth c 0 0 Q0 D A 12 (wX ad bd S C V NS NC NV mk Wk) 32 [.ref (ad 0), .int (nI x), .int (nI y), .int (nI i), .int (nI (36 * x + ct f (6 * i + j))), .int (nI (36 * y + ct g (6 * i + j))), .int (nI (36 * x + ct f (6 * i + 6))), .int (nI (36 * y + ct g (6 * i + 6)))] [] := by
    intro n
    induction n with
    | zero =>
      intro j NC NV mk hj hn hM
      exact absurd hn (by omega)
    | succ n ih =>
      intro j NC NV mk hj hn hM
      have l1 := ct_row_le (f := f) hi hj
      have l2 := ct_row_le (f := g) hi hj
      have l3 := ct_row_le (f := f) hi (Nat.le_refl 6)
      have l4 := ct_row_le (f := g) hi (Nat.le_refl 6)
      rcases it_row hf hi hj with ⟨e1, zf⟩ | ⟨j1, a1, a2, a3, a4, a5, a6, a7, a8⟩ <;> rcases it_row hg hi hj with ⟨e2, zg⟩ | ⟨j2, b1, b2, b3, b4, b5, b6, b7, b8⟩
      · skip
        refine x_iload K dX0_mergeRow_32 rfl ?_
        refine x_iload K dX0_mergeRow_34 rfl ?_
        refine x_cmpN_lt K 46 dX0_mergeRow_36 (by decide) (by omega) (by omega) (fun q => absurd q (by omega)) (fun _ => ?_)
        refine x_iload K dX0_mergeRow_39 rfl ?_
        refine x_iload K dX0_mergeRow_41 rfl ?_
        refine x_cmpN_ge K 162 dX0_mergeRow_43 (by decide) (by omega) (by omega) (fun _ => ?_) (fun q => absurd q (by omega))
        rw [hQ0]
        exact x_vret K hr hlocks dX0_mergeRow_162 (NC, NV, mk) (rfl) (mk_skip hM (by omega) (fun c h1 h2 => by rw [hb c (by omega), show c = 6 * i + (c - 6 * i) by omega, zf _ (by omega) (by omega), zg _ (by omega) (by omega)]; exact Int32.add_zero 0))
      · skip
        refine x_iload K dX0_mergeRow_32 rfl ?_
        refine x_iload K dX0_mergeRow_34 rfl ?_
        refine x_cmpN_lt K 46 dX0_mergeRow_36 (by decide) (by omega) (by omega) (fun q => absurd q (by omega)) (fun _ => ?_)
        refine x_iload K dX0_mergeRow_39 rfl ?_
        refine x_iload K dX0_mergeRow_41 rfl ?_
        refine x_cmpN_ge K 162 dX0_mergeRow_43 (by decide) (by omega) (by omega) (fun q => absurd q (by omega)) (fun _ => ?_)
        refine x_iload K dX0_mergeRow_46 rfl ?_
        refine x_iload K dX0_mergeRow_48 rfl ?_
        refine x_cmpN_ge K 63 dX0_mergeRow_50 (by decide) (by omega) (by omega) (fun _ => ?_) (fun q => absurd q (by omega))
        refine x_bipush K (nI 6) dX0_mergeRow_63 (by decide) ?_
        refine x_istore K [.ref (ad 0), .int (nI x), .int (nI y), .int (nI i), .int (nI (36 * x + ct f (6 * i + j))), .int (nI (36 * y + ct g (6 * i + j))), .int (nI (36 * x + ct f (6 * i + 6))), .int (nI (36 * y + ct g (6 * i + 6))), .int (nI 6)] dX0_mergeRow_65 (by decide) (Nat.le_of_ble_eq_true rfl) rfl ?_
        refine x_iload K dX0_mergeRow_67 rfl ?_
        refine x_iload K dX0_mergeRow_69 rfl ?_
        refine x_cmpN_ge K 84 dX0_mergeRow_71 (by decide) (by omega) (by omega) (fun q => absurd q (by omega)) (fun _ => ?_)
        refine x_aload_n K dX0_mergeRow_74 rfl ?_
        refine gtC K dX0_mergeRow_75 ?_
        refine x_iload K dX0_mergeRow_78 rfl ?_
        refine ldC K (36 * y + ct g (6 * i + j)) (rfl) (by omega) (x := (nI j2)) (b6) dX0_mergeRow_80 ?_
        refine x_goto K 86 dX0_mergeRow_81 (by decide) ?_
        refine x_istore K [.ref (ad 0), .int (nI x), .int (nI y), .int (nI i), .int (nI (36 * x + ct f (6 * i + j))), .int (nI (36 * y + ct g (6 * i + j))), .int (nI (36 * x + ct f (6 * i + 6))), .int (nI (36 * y + ct g (6 * i + 6))), .int (nI 6), .int (nI j2)] dX0_mergeRow_86 (by decide) (Nat.le_of_ble_eq_true rfl) rfl ?_
        refine x_iload K dX0_mergeRow_88 rfl ?_
        refine x_iload K dX0_mergeRow_90 rfl ?_
        refine x_cmpN_ge K 100 dX0_mergeRow_92 (by decide) (by omega) (by omega) (fun _ => ?_) (fun q => absurd q (by omega))
        refine x_iload K dX0_mergeRow_100 rfl ?_
        refine x_istore K [.ref (ad 0), .int (nI x), .int (nI y), .int (nI i), .int (nI (36 * x + ct f (6 * i + j))), .int (nI (36 * y + ct g (6 * i + j))), .int (nI (36 * x + ct f (6 * i + 6))), .int (nI (36 * y + ct g (6 * i + 6))), .int (nI 6), .int (nI j2), .int (nI j2)] dX0_mergeRow_102 (by decide) (Nat.le_of_ble_eq_true rfl) rfl ?_
        refine x_iconst K (nI 0) dX0_mergeRow_104 (by decide) ?_
        refine x_istore K [.ref (ad 0), .int (nI x), .int (nI y), .int (nI i), .int (nI (36 * x + ct f (6 * i + j))), .int (nI (36 * y + ct g (6 * i + j))), .int (nI (36 * x + ct f (6 * i + 6))), .int (nI (36 * y + ct g (6 * i + 6))), .int (nI 6), .int (nI j2), .int (nI j2), .int (nI 0)] dX0_mergeRow_105 (by decide) (Nat.le_of_ble_eq_true rfl) rfl ?_
        refine x_iload K dX0_mergeRow_107 rfl ?_
        refine x_iload K dX0_mergeRow_109 rfl ?_
        refine x_cmpN_ne K 129 dX0_mergeRow_111 (by decide) (by omega) (by omega) (fun _ => ?_) (fun q => absurd q (by omega))
        refine x_iload K dX0_mergeRow_129 rfl ?_
        refine x_iload K dX0_mergeRow_131 rfl ?_
        refine x_cmpN_ne K 151 dX0_mergeRow_133 (by decide) (by omega) (by omega) (fun q => absurd q (by omega)) (fun _ => ?_)
        refine x_iload K dX0_mergeRow_136 rfl ?_
        refine x_aload_n K dX0_mergeRow_138 rfl ?_
        refine gtV K dX0_mergeRow_139 ?_
        refine x_iload K dX0_mergeRow_142 rfl ?_
        refine ldV K (36 * y + ct g (6 * i + j)) (rfl) (by omega) (x := (g (6 * i + j2))) (b7) dX0_mergeRow_144 ?_
        refine x_iadd K dX0_mergeRow_145 ?_
        refine x_istore K [.ref (ad 0), .int (nI x), .int (nI y), .int (nI i), .int (nI (36 * x + ct f (6 * i + j))), .int (nI (36 * y + ct g (6 * i + j))), .int (nI (36 * x + ct f (6 * i + 6))), .int (nI (36 * y + ct g (6 * i + 6))), .int (nI 6), .int (nI j2), .int (nI j2), .int (((nI 0)) + ((g (6 * i + j2))))] dX0_mergeRow_146 (by decide) (Nat.le_of_ble_eq_true rfl) rfl ?_
        refine x_iinc1 K [.ref (ad 0), .int (nI x), .int (nI y), .int (nI i), .int (nI (36 * x + ct f (6 * i + j))), .int (nI (36 * y + ct g (6 * i + j) + 1)), .int (nI (36 * x + ct f (6 * i + 6))), .int (nI (36 * y + ct g (6 * i + 6))), .int (nI 6), .int (nI j2), .int (nI j2), .int (((nI 0)) + ((g (6 * i + j2))))] dX0_mergeRow_148 rfl (by decide) (Nat.le_of_ble_eq_true rfl) rfl ?_
        refine x_aload_n K dX0_mergeRow_151 rfl ?_
        refine x_iload K dX0_mergeRow_152 rfl ?_
        refine x_iload K dX0_mergeRow_154 rfl ?_
        refine caX_emit K (by decide) (b) (6 * i + j2) (mk_skip hM (by omega) (fun c h1 h2 => by rw [hb c (by omega), show c = 6 * i + (c - 6 * i) by omega, zf _ (by omega) (by omega), b4 _ (by omega) (by omega)]; exact Int32.add_zero 0)) (by omega) (by omega) (by rw [hb _ (by omega), zf j2 (by omega) (by omega), z_add, Int32.zero_add]) (Nat.le_of_ble_eq_true rfl) dX0_mergeRow_156 (fun NC NV mk hM => ?_)
        refine x_goto K 32 dX0_mergeRow_159 (by decide) ?_
        refine x_drop [.ref (ad 0), .int (nI x), .int (nI y), .int (nI i), .int (nI (36 * x + ct f (6 * i + j))), .int (nI (36 * y + ct g (6 * i + j) + 1)), .int (nI (36 * x + ct f (6 * i + 6))), .int (nI (36 * y + ct g (6 * i + 6)))] 8 rfl ?_
        have sf : ct f (6 * i + (j2 + 1)) = ct f (6 * i + j) := ct_run (by omega) (fun c h1 h2 => by rw [show c = 6 * i + (c - 6 * i) by omega]; exact zf (c - 6 * i) (by omega) (by omega))
        rw [show 36 * y + ct g (6 * i + j) + 1 = 36 * y + ct g (6 * i + (j2 + 1)) by omega, show 36 * x + ct f (6 * i + j) = 36 * x + ct f (6 * i + (j2 + 1)) by omega]
        exact ih (j2 + 1) NC NV mk (by omega) (by omega) hM
      · skip
        refine x_iload K dX0_mergeRow_32 rfl ?_
        refine x_iload K dX0_mergeRow_34 rfl ?_
        refine x_cmpN_lt K 46 dX0_mergeRow_36 (by decide) (by omega) (by omega) (fun _ => ?_) (fun q => absurd q (by omega))
        refine x_iload K dX0_mergeRow_46 rfl ?_
        refine x_iload K dX0_mergeRow_48 rfl ?_
        refine x_cmpN_ge K 63 dX0_mergeRow_50 (by decide) (by omega) (by omega) (fun q => absurd q (by omega)) (fun _ => ?_)
        refine x_aload_n K dX0_mergeRow_53 rfl ?_
        refine gtC K dX0_mergeRow_54 ?_
        refine x_iload K dX0_mergeRow_57 rfl ?_
        refine ldC K (36 * x + ct f (6 * i + j)) (rfl) (by omega) (x := (nI j1)) (a6) dX0_mergeRow_59 ?_
        refine x_goto K 65 dX0_mergeRow_60 (by decide) ?_
        refine x_istore K [.ref (ad 0), .int (nI x), .int (nI y), .int (nI i), .int (nI (36 * x + ct f (6 * i + j))), .int (nI (36 * y + ct g (6 * i + j))), .int (nI (36 * x + ct f (6 * i + 6))), .int (nI (36 * y + ct g (6 * i + 6))), .int (nI j1)] dX0_mergeRow_65 (by decide) (Nat.le_of_ble_eq_true rfl) rfl ?_
        refine x_iload K dX0_mergeRow_67 rfl ?_
        refine x_iload K dX0_mergeRow_69 rfl ?_
        refine x_cmpN_ge K 84 dX0_mergeRow_71 (by decide) (by omega) (by omega) (fun _ => ?_) (fun q => absurd q (by omega))
        refine x_bipush K (nI 6) dX0_mergeRow_84 (by decide) ?_
        refine x_istore K [.ref (ad 0), .int (nI x), .int (nI y), .int (nI i), .int (nI (36 * x + ct f (6 * i + j))), .int (nI (36 * y + ct g (6 * i + j))), .int (nI (36 * x + ct f (6 * i + 6))), .int (nI (36 * y + ct g (6 * i + 6))), .int (nI j1), .int (nI 6)] dX0_mergeRow_86 (by decide) (Nat.le_of_ble_eq_true rfl) rfl ?_
        refine x_iload K dX0_mergeRow_88 rfl ?_
        refine x_iload K dX0_mergeRow_90 rfl ?_
        refine x_cmpN_ge K 100 dX0_mergeRow_92 (by decide) (by omega) (by omega) (fun q => absurd q (by omega)) (fun _ => ?_)
        refine x_iload K dX0_mergeRow_95 rfl ?_
        refine x_goto K 102 dX0_mergeRow_97 (by decide) ?_
        refine x_istore K [.ref (ad 0), .int (nI x), .int (nI y), .int (nI i), .int (nI (36 * x + ct f (6 * i + j))), .int (nI (36 * y + ct g (6 * i + j))), .int (nI (36 * x + ct f (6 * i + 6))), .int (nI (36 * y + ct g (6 * i + 6))), .int (nI j1), .int (nI 6), .int (nI j1)] dX0_mergeRow_102 (by decide) (Nat.le_of_ble_eq_true rfl) rfl ?_
        refine x_iconst K (nI 0) dX0_mergeRow_104 (by decide) ?_
        refine x_istore K [.ref (ad 0), .int (nI x), .int (nI y), .int (nI i), .int (nI (36 * x + ct f (6 * i + j))), .int (nI (36 * y + ct g (6 * i + j))), .int (nI (36 * x + ct f (6 * i + 6))), .int (nI (36 * y + ct g (6 * i + 6))), .int (nI j1), .int (nI 6), .int (nI j1), .int (nI 0)] dX0_mergeRow_105 (by decide) (Nat.le_of_ble_eq_true rfl) rfl ?_
        refine x_iload K dX0_mergeRow_107 rfl ?_
        refine x_iload K dX0_mergeRow_109 rfl ?_
        refine x_cmpN_ne K 129 dX0_mergeRow_111 (by decide) (by omega) (by omega) (fun q => absurd q (by omega)) (fun _ => ?_)
        refine x_iload K dX0_mergeRow_114 rfl ?_
        refine x_aload_n K dX0_mergeRow_116 rfl ?_
        refine gtV K dX0_mergeRow_117 ?_
        refine x_iload K dX0_mergeRow_120 rfl ?_
        refine ldV K (36 * x + ct f (6 * i + j)) (rfl) (by omega) (x := (f (6 * i + j1))) (a7) dX0_mergeRow_122 ?_
        refine x_iadd K dX0_mergeRow_123 ?_
        refine x_istore K [.ref (ad 0), .int (nI x), .int (nI y), .int (nI i), .int (nI (36 * x + ct f (6 * i + j))), .int (nI (36 * y + ct g (6 * i + j))), .int (nI (36 * x + ct f (6 * i + 6))), .int (nI (36 * y + ct g (6 * i + 6))), .int (nI j1), .int (nI 6), .int (nI j1), .int (((nI 0)) + ((f (6 * i + j1))))] dX0_mergeRow_124 (by decide) (Nat.le_of_ble_eq_true rfl) rfl ?_
        refine x_iinc1 K [.ref (ad 0), .int (nI x), .int (nI y), .int (nI i), .int (nI (36 * x + ct f (6 * i + j) + 1)), .int (nI (36 * y + ct g (6 * i + j))), .int (nI (36 * x + ct f (6 * i + 6))), .int (nI (36 * y + ct g (6 * i + 6))), .int (nI j1), .int (nI 6), .int (nI j1), .int (((nI 0)) + ((f (6 * i + j1))))] dX0_mergeRow_126 rfl (by decide) (Nat.le_of_ble_eq_true rfl) rfl ?_
        refine x_iload K dX0_mergeRow_129 rfl ?_
        refine x_iload K dX0_mergeRow_131 rfl ?_
        refine x_cmpN_ne K 151 dX0_mergeRow_133 (by decide) (by omega) (by omega) (fun _ => ?_) (fun q => absurd q (by omega))
        refine x_aload_n K dX0_mergeRow_151 rfl ?_
        refine x_iload K dX0_mergeRow_152 rfl ?_
        refine x_iload K dX0_mergeRow_154 rfl ?_
        refine caX_emit K (by decide) (b) (6 * i + j1) (mk_skip hM (by omega) (fun c h1 h2 => by rw [hb c (by omega), show c = 6 * i + (c - 6 * i) by omega, a4 _ (by omega) (by omega), zg _ (by omega) (by omega)]; exact Int32.add_zero 0)) (by omega) (by omega) (by rw [hb _ (by omega), zg j1 (by omega) (by omega), z_add, Int32.add_zero]) (Nat.le_of_ble_eq_true rfl) dX0_mergeRow_156 (fun NC NV mk hM => ?_)
        refine x_goto K 32 dX0_mergeRow_159 (by decide) ?_
        refine x_drop [.ref (ad 0), .int (nI x), .int (nI y), .int (nI i), .int (nI (36 * x + ct f (6 * i + j) + 1)), .int (nI (36 * y + ct g (6 * i + j))), .int (nI (36 * x + ct f (6 * i + 6))), .int (nI (36 * y + ct g (6 * i + 6)))] 8 rfl ?_
        have sg : ct g (6 * i + (j1 + 1)) = ct g (6 * i + j) := ct_run (by omega) (fun c h1 h2 => by rw [show c = 6 * i + (c - 6 * i) by omega]; exact zg (c - 6 * i) (by omega) (by omega))
        rw [show 36 * x + ct f (6 * i + j) + 1 = 36 * x + ct f (6 * i + (j1 + 1)) by omega, show 36 * y + ct g (6 * i + j) = 36 * y + ct g (6 * i + (j1 + 1)) by omega]
        exact ih (j1 + 1) NC NV mk (by omega) (by omega) hM
      · skip
        rcases Nat.lt_trichotomy j1 j2 with hl | hl | hl
        · skip
          refine x_iload K dX0_mergeRow_32 rfl ?_
          refine x_iload K dX0_mergeRow_34 rfl ?_
          refine x_cmpN_lt K 46 dX0_mergeRow_36 (by decide) (by omega) (by omega) (fun _ => ?_) (fun q => absurd q (by omega))
          refine x_iload K dX0_mergeRow_46 rfl ?_
          refine x_iload K dX0_mergeRow_48 rfl ?_
          refine x_cmpN_ge K 63 dX0_mergeRow_50 (by decide) (by omega) (by omega) (fun q => absurd q (by omega)) (fun _ => ?_)
          refine x_aload_n K dX0_mergeRow_53 rfl ?_
          refine gtC K dX0_mergeRow_54 ?_
          refine x_iload K dX0_mergeRow_57 rfl ?_
          refine ldC K (36 * x + ct f (6 * i + j)) (rfl) (by omega) (x := (nI j1)) (a6) dX0_mergeRow_59 ?_
          refine x_goto K 65 dX0_mergeRow_60 (by decide) ?_
          refine x_istore K [.ref (ad 0), .int (nI x), .int (nI y), .int (nI i), .int (nI (36 * x + ct f (6 * i + j))), .int (nI (36 * y + ct g (6 * i + j))), .int (nI (36 * x + ct f (6 * i + 6))), .int (nI (36 * y + ct g (6 * i + 6))), .int (nI j1)] dX0_mergeRow_65 (by decide) (Nat.le_of_ble_eq_true rfl) rfl ?_
          refine x_iload K dX0_mergeRow_67 rfl ?_
          refine x_iload K dX0_mergeRow_69 rfl ?_
          refine x_cmpN_ge K 84 dX0_mergeRow_71 (by decide) (by omega) (by omega) (fun q => absurd q (by omega)) (fun _ => ?_)
          refine x_aload_n K dX0_mergeRow_74 rfl ?_
          refine gtC K dX0_mergeRow_75 ?_
          refine x_iload K dX0_mergeRow_78 rfl ?_
          refine ldC K (36 * y + ct g (6 * i + j)) (rfl) (by omega) (x := (nI j2)) (b6) dX0_mergeRow_80 ?_
          refine x_goto K 86 dX0_mergeRow_81 (by decide) ?_
          refine x_istore K [.ref (ad 0), .int (nI x), .int (nI y), .int (nI i), .int (nI (36 * x + ct f (6 * i + j))), .int (nI (36 * y + ct g (6 * i + j))), .int (nI (36 * x + ct f (6 * i + 6))), .int (nI (36 * y + ct g (6 * i + 6))), .int (nI j1), .int (nI j2)] dX0_mergeRow_86 (by decide) (Nat.le_of_ble_eq_true rfl) rfl ?_
          refine x_iload K dX0_mergeRow_88 rfl ?_
          refine x_iload K dX0_mergeRow_90 rfl ?_
          refine x_cmpN_ge K 100 dX0_mergeRow_92 (by decide) (by omega) (by omega) (fun q => absurd q (by omega)) (fun _ => ?_)
          refine x_iload K dX0_mergeRow_95 rfl ?_
          refine x_goto K 102 dX0_mergeRow_97 (by decide) ?_
          refine x_istore K [.ref (ad 0), .int (nI x), .int (nI y), .int (nI i), .int (nI (36 * x + ct f (6 * i + j))), .int (nI (36 * y + ct g (6 * i + j))), .int (nI (36 * x + ct f (6 * i + 6))), .int (nI (36 * y + ct g (6 * i + 6))), .int (nI j1), .int (nI j2), .int (nI j1)] dX0_mergeRow_102 (by decide) (Nat.le_of_ble_eq_true rfl) rfl ?_
          refine x_iconst K (nI 0) dX0_mergeRow_104 (by decide) ?_
          refine x_istore K [.ref (ad 0), .int (nI x), .int (nI y), .int (nI i), .int (nI (36 * x + ct f (6 * i + j))), .int (nI (36 * y + ct g (6 * i + j))), .int (nI (36 * x + ct f (6 * i + 6))), .int (nI (36 * y + ct g (6 * i + 6))), .int (nI j1), .int (nI j2), .int (nI j1), .int (nI 0)] dX0_mergeRow_105 (by decide) (Nat.le_of_ble_eq_true rfl) rfl ?_
          refine x_iload K dX0_mergeRow_107 rfl ?_
          refine x_iload K dX0_mergeRow_109 rfl ?_
          refine x_cmpN_ne K 129 dX0_mergeRow_111 (by decide) (by omega) (by omega) (fun q => absurd q (by omega)) (fun _ => ?_)
          refine x_iload K dX0_mergeRow_114 rfl ?_
          refine x_aload_n K dX0_mergeRow_116 rfl ?_
          refine gtV K dX0_mergeRow_117 ?_
          refine x_iload K dX0_mergeRow_120 rfl ?_
          refine ldV K (36 * x + ct f (6 * i + j)) (rfl) (by omega) (x := (f (6 * i + j1))) (a7) dX0_mergeRow_122 ?_
          refine x_iadd K dX0_mergeRow_123 ?_
          refine x_istore K [.ref (ad 0), .int (nI x), .int (nI y), .int (nI i), .int (nI (36 * x + ct f (6 * i + j))), .int (nI (36 * y + ct g (6 * i + j))), .int (nI (36 * x + ct f (6 * i + 6))), .int (nI (36 * y + ct g (6 * i + 6))), .int (nI j1), .int (nI j2), .int (nI j1), .int (((nI 0)) + ((f (6 * i + j1))))] dX0_mergeRow_124 (by decide) (Nat.le_of_ble_eq_true rfl) rfl ?_
          refine x_iinc1 K [.ref (ad 0), .int (nI x), .int (nI y), .int (nI i), .int (nI (36 * x + ct f (6 * i + j) + 1)), .int (nI (36 * y + ct g (6 * i + j))), .int (nI (36 * x + ct f (6 * i + 6))), .int (nI (36 * y + ct g (6 * i + 6))), .int (nI j1), .int (nI j2), .int (nI j1), .int (((nI 0)) + ((f (6 * i + j1))))] dX0_mergeRow_126 rfl (by decide) (Nat.le_of_ble_eq_true rfl) rfl ?_
          refine x_iload K dX0_mergeRow_129 rfl ?_
          refine x_iload K dX0_mergeRow_131 rfl ?_
          refine x_cmpN_ne K 151 dX0_mergeRow_133 (by decide) (by omega) (by omega) (fun _ => ?_) (fun q => absurd q (by omega))
          refine x_aload_n K dX0_mergeRow_151 rfl ?_
          refine x_iload K dX0_mergeRow_152 rfl ?_
          refine x_iload K dX0_mergeRow_154 rfl ?_
          refine caX_emit K (by decide) (b) (6 * i + j1) (mk_skip hM (by omega) (fun c h1 h2 => by rw [hb c (by omega), show c = 6 * i + (c - 6 * i) by omega, a4 _ (by omega) (by omega), b4 _ (by omega) (by omega)]; exact Int32.add_zero 0)) (by omega) (by omega) (by rw [hb _ (by omega), b4 j1 (by omega) (by omega), z_add, Int32.add_zero]) (Nat.le_of_ble_eq_true rfl) dX0_mergeRow_156 (fun NC NV mk hM => ?_)
          refine x_goto K 32 dX0_mergeRow_159 (by decide) ?_
          refine x_drop [.ref (ad 0), .int (nI x), .int (nI y), .int (nI i), .int (nI (36 * x + ct f (6 * i + j) + 1)), .int (nI (36 * y + ct g (6 * i + j))), .int (nI (36 * x + ct f (6 * i + 6))), .int (nI (36 * y + ct g (6 * i + 6)))] 8 rfl ?_
          have sg : ct g (6 * i + (j1 + 1)) = ct g (6 * i + j) := ct_run (by omega) (fun c h1 h2 => by rw [show c = 6 * i + (c - 6 * i) by omega]; exact b4 (c - 6 * i) (by omega) (by omega))
          rw [show 36 * x + ct f (6 * i + j) + 1 = 36 * x + ct f (6 * i + (j1 + 1)) by omega, show 36 * y + ct g (6 * i + j) = 36 * y + ct g (6 * i + (j1 + 1)) by omega]
          exact ih (j1 + 1) NC NV mk (by omega) (by omega) hM
        · skip
          subst hl
          refine x_iload K dX0_mergeRow_32 rfl ?_
          refine x_iload K dX0_mergeRow_34 rfl ?_
          refine x_cmpN_lt K 46 dX0_mergeRow_36 (by decide) (by omega) (by omega) (fun _ => ?_) (fun q => absurd q (by omega))
          refine x_iload K dX0_mergeRow_46 rfl ?_
          refine x_iload K dX0_mergeRow_48 rfl ?_
          refine x_cmpN_ge K 63 dX0_mergeRow_50 (by decide) (by omega) (by omega) (fun q => absurd q (by omega)) (fun _ => ?_)
          refine x_aload_n K dX0_mergeRow_53 rfl ?_
          refine gtC K dX0_mergeRow_54 ?_
          refine x_iload K dX0_mergeRow_57 rfl ?_
          refine ldC K (36 * x + ct f (6 * i + j)) (rfl) (by omega) (x := (nI j1)) (a6) dX0_mergeRow_59 ?_
          refine x_goto K 65 dX0_mergeRow_60 (by decide) ?_
          refine x_istore K [.ref (ad 0), .int (nI x), .int (nI y), .int (nI i), .int (nI (36 * x + ct f (6 * i + j))), .int (nI (36 * y + ct g (6 * i + j))), .int (nI (36 * x + ct f (6 * i + 6))), .int (nI (36 * y + ct g (6 * i + 6))), .int (nI j1)] dX0_mergeRow_65 (by decide) (Nat.le_of_ble_eq_true rfl) rfl ?_
          refine x_iload K dX0_mergeRow_67 rfl ?_
          refine x_iload K dX0_mergeRow_69 rfl ?_
          refine x_cmpN_ge K 84 dX0_mergeRow_71 (by decide) (by omega) (by omega) (fun q => absurd q (by omega)) (fun _ => ?_)
          refine x_aload_n K dX0_mergeRow_74 rfl ?_
          refine gtC K dX0_mergeRow_75 ?_
          refine x_iload K dX0_mergeRow_78 rfl ?_
          refine ldC K (36 * y + ct g (6 * i + j)) (rfl) (by omega) (x := (nI j1)) (b6) dX0_mergeRow_80 ?_
          refine x_goto K 86 dX0_mergeRow_81 (by decide) ?_
          refine x_istore K [.ref (ad 0), .int (nI x), .int (nI y), .int (nI i), .int (nI (36 * x + ct f (6 * i + j))), .int (nI (36 * y + ct g (6 * i + j))), .int (nI (36 * x + ct f (6 * i + 6))), .int (nI (36 * y + ct g (6 * i + 6))), .int (nI j1), .int (nI j1)] dX0_mergeRow_86 (by decide) (Nat.le_of_ble_eq_true rfl) rfl ?_
          refine x_iload K dX0_mergeRow_88 rfl ?_
          refine x_iload K dX0_mergeRow_90 rfl ?_
          refine x_cmpN_ge K 100 dX0_mergeRow_92 (by decide) (by omega) (by omega) (fun _ => ?_) (fun q => absurd q (by omega))
          refine x_iload K dX0_mergeRow_100 rfl ?_
          refine x_istore K [.ref (ad 0), .int (nI x), .int (nI y), .int (nI i), .int (nI (36 * x + ct f (6 * i + j))), .int (nI (36 * y + ct g (6 * i + j))), .int (nI (36 * x + ct f (6 * i + 6))), .int (nI (36 * y + ct g (6 * i + 6))), .int (nI j1), .int (nI j1), .int (nI j1)] dX0_mergeRow_102 (by decide) (Nat.le_of_ble_eq_true rfl) rfl ?_
          refine x_iconst K (nI 0) dX0_mergeRow_104 (by decide) ?_
          refine x_istore K [.ref (ad 0), .int (nI x), .int (nI y), .int (nI i), .int (nI (36 * x + ct f (6 * i + j))), .int (nI (36 * y + ct g (6 * i + j))), .int (nI (36 * x + ct f (6 * i + 6))), .int (nI (36 * y + ct g (6 * i + 6))), .int (nI j1), .int (nI j1), .int (nI j1), .int (nI 0)] dX0_mergeRow_105 (by decide) (Nat.le_of_ble_eq_true rfl) rfl ?_
          refine x_iload K dX0_mergeRow_107 rfl ?_
          refine x_iload K dX0_mergeRow_109 rfl ?_
          refine x_cmpN_ne K 129 dX0_mergeRow_111 (by decide) (by omega) (by omega) (fun q => absurd q (by omega)) (fun _ => ?_)
          refine x_iload K dX0_mergeRow_114 rfl ?_
          refine x_aload_n K dX0_mergeRow_116 rfl ?_
          refine gtV K dX0_mergeRow_117 ?_
          refine x_iload K dX0_mergeRow_120 rfl ?_
          refine ldV K (36 * x + ct f (6 * i + j)) (rfl) (by omega) (x := (f (6 * i + j1))) (a7) dX0_mergeRow_122 ?_
          refine x_iadd K dX0_mergeRow_123 ?_
          refine x_istore K [.ref (ad 0), .int (nI x), .int (nI y), .int (nI i), .int (nI (36 * x + ct f (6 * i + j))), .int (nI (36 * y + ct g (6 * i + j))), .int (nI (36 * x + ct f (6 * i + 6))), .int (nI (36 * y + ct g (6 * i + 6))), .int (nI j1), .int (nI j1), .int (nI j1), .int (((nI 0)) + ((f (6 * i + j1))))] dX0_mergeRow_124 (by decide) (Nat.le_of_ble_eq_true rfl) rfl ?_
          refine x_iinc1 K [.ref (ad 0), .int (nI x), .int (nI y), .int (nI i), .int (nI (36 * x + ct f (6 * i + j) + 1)), .int (nI (36 * y + ct g (6 * i + j))), .int (nI (36 * x + ct f (6 * i + 6))), .int (nI (36 * y + ct g (6 * i + 6))), .int (nI j1), .int (nI j1), .int (nI j1), .int (((nI 0)) + ((f (6 * i + j1))))] dX0_mergeRow_126 rfl (by decide) (Nat.le_of_ble_eq_true rfl) rfl ?_
          refine x_iload K dX0_mergeRow_129 rfl ?_
          refine x_iload K dX0_mergeRow_131 rfl ?_
          refine x_cmpN_ne K 151 dX0_mergeRow_133 (by decide) (by omega) (by omega) (fun q => absurd q (by omega)) (fun _ => ?_)
          refine x_iload K dX0_mergeRow_136 rfl ?_
          refine x_aload_n K dX0_mergeRow_138 rfl ?_
          refine gtV K dX0_mergeRow_139 ?_
          refine x_iload K dX0_mergeRow_142 rfl ?_
          refine ldV K (36 * y + ct g (6 * i + j)) (rfl) (by omega) (x := (g (6 * i + j1))) (b7) dX0_mergeRow_144 ?_
          refine x_iadd K dX0_mergeRow_145 ?_
          refine x_istore K [.ref (ad 0), .int (nI x), .int (nI y), .int (nI i), .int (nI (36 * x + ct f (6 * i + j) + 1)), .int (nI (36 * y + ct g (6 * i + j))), .int (nI (36 * x + ct f (6 * i + 6))), .int (nI (36 * y + ct g (6 * i + 6))), .int (nI j1), .int (nI j1), .int (nI j1), .int (((((nI 0)) + ((f (6 * i + j1))))) + ((g (6 * i + j1))))] dX0_mergeRow_146 (by decide) (Nat.le_of_ble_eq_true rfl) rfl ?_
          refine x_iinc1 K [.ref (ad 0), .int (nI x), .int (nI y), .int (nI i), .int (nI (36 * x + ct f (6 * i + j) + 1)), .int (nI (36 * y + ct g (6 * i + j) + 1)), .int (nI (36 * x + ct f (6 * i + 6))), .int (nI (36 * y + ct g (6 * i + 6))), .int (nI j1), .int (nI j1), .int (nI j1), .int (((((nI 0)) + ((f (6 * i + j1))))) + ((g (6 * i + j1))))] dX0_mergeRow_148 rfl (by decide) (Nat.le_of_ble_eq_true rfl) rfl ?_
          refine x_aload_n K dX0_mergeRow_151 rfl ?_
          refine x_iload K dX0_mergeRow_152 rfl ?_
          refine x_iload K dX0_mergeRow_154 rfl ?_
          refine caX_emit K (by decide) (b) (6 * i + j1) (mk_skip hM (by omega) (fun c h1 h2 => by rw [hb c (by omega), show c = 6 * i + (c - 6 * i) by omega, a4 _ (by omega) (by omega), b4 _ (by omega) (by omega)]; exact Int32.add_zero 0)) (by omega) (by omega) (by rw [hb _ (by omega), z_add]) (Nat.le_of_ble_eq_true rfl) dX0_mergeRow_156 (fun NC NV mk hM => ?_)
          refine x_goto K 32 dX0_mergeRow_159 (by decide) ?_
          refine x_drop [.ref (ad 0), .int (nI x), .int (nI y), .int (nI i), .int (nI (36 * x + ct f (6 * i + j) + 1)), .int (nI (36 * y + ct g (6 * i + j) + 1)), .int (nI (36 * x + ct f (6 * i + 6))), .int (nI (36 * y + ct g (6 * i + 6)))] 8 rfl ?_
          rw [show 36 * x + ct f (6 * i + j) + 1 = 36 * x + ct f (6 * i + (j1 + 1)) by omega, show 36 * y + ct g (6 * i + j) + 1 = 36 * y + ct g (6 * i + (j1 + 1)) by omega]
          exact ih (j1 + 1) NC NV mk (by omega) (by omega) hM
        · skip
          refine x_iload K dX0_mergeRow_32 rfl ?_
          refine x_iload K dX0_mergeRow_34 rfl ?_
          refine x_cmpN_lt K 46 dX0_mergeRow_36 (by decide) (by omega) (by omega) (fun _ => ?_) (fun q => absurd q (by omega))
          refine x_iload K dX0_mergeRow_46 rfl ?_
          refine x_iload K dX0_mergeRow_48 rfl ?_
          refine x_cmpN_ge K 63 dX0_mergeRow_50 (by decide) (by omega) (by omega) (fun q => absurd q (by omega)) (fun _ => ?_)
          refine x_aload_n K dX0_mergeRow_53 rfl ?_
          refine gtC K dX0_mergeRow_54 ?_
          refine x_iload K dX0_mergeRow_57 rfl ?_
          refine ldC K (36 * x + ct f (6 * i + j)) (rfl) (by omega) (x := (nI j1)) (a6) dX0_mergeRow_59 ?_
          refine x_goto K 65 dX0_mergeRow_60 (by decide) ?_
          refine x_istore K [.ref (ad 0), .int (nI x), .int (nI y), .int (nI i), .int (nI (36 * x + ct f (6 * i + j))), .int (nI (36 * y + ct g (6 * i + j))), .int (nI (36 * x + ct f (6 * i + 6))), .int (nI (36 * y + ct g (6 * i + 6))), .int (nI j1)] dX0_mergeRow_65 (by decide) (Nat.le_of_ble_eq_true rfl) rfl ?_
          refine x_iload K dX0_mergeRow_67 rfl ?_
          refine x_iload K dX0_mergeRow_69 rfl ?_
          refine x_cmpN_ge K 84 dX0_mergeRow_71 (by decide) (by omega) (by omega) (fun q => absurd q (by omega)) (fun _ => ?_)
          refine x_aload_n K dX0_mergeRow_74 rfl ?_
          refine gtC K dX0_mergeRow_75 ?_
          refine x_iload K dX0_mergeRow_78 rfl ?_
          refine ldC K (36 * y + ct g (6 * i + j)) (rfl) (by omega) (x := (nI j2)) (b6) dX0_mergeRow_80 ?_
          refine x_goto K 86 dX0_mergeRow_81 (by decide) ?_
          refine x_istore K [.ref (ad 0), .int (nI x), .int (nI y), .int (nI i), .int (nI (36 * x + ct f (6 * i + j))), .int (nI (36 * y + ct g (6 * i + j))), .int (nI (36 * x + ct f (6 * i + 6))), .int (nI (36 * y + ct g (6 * i + 6))), .int (nI j1), .int (nI j2)] dX0_mergeRow_86 (by decide) (Nat.le_of_ble_eq_true rfl) rfl ?_
          refine x_iload K dX0_mergeRow_88 rfl ?_
          refine x_iload K dX0_mergeRow_90 rfl ?_
          refine x_cmpN_ge K 100 dX0_mergeRow_92 (by decide) (by omega) (by omega) (fun _ => ?_) (fun q => absurd q (by omega))
          refine x_iload K dX0_mergeRow_100 rfl ?_
          refine x_istore K [.ref (ad 0), .int (nI x), .int (nI y), .int (nI i), .int (nI (36 * x + ct f (6 * i + j))), .int (nI (36 * y + ct g (6 * i + j))), .int (nI (36 * x + ct f (6 * i + 6))), .int (nI (36 * y + ct g (6 * i + 6))), .int (nI j1), .int (nI j2), .int (nI j2)] dX0_mergeRow_102 (by decide) (Nat.le_of_ble_eq_true rfl) rfl ?_
          refine x_iconst K (nI 0) dX0_mergeRow_104 (by decide) ?_
          refine x_istore K [.ref (ad 0), .int (nI x), .int (nI y), .int (nI i), .int (nI (36 * x + ct f (6 * i + j))), .int (nI (36 * y + ct g (6 * i + j))), .int (nI (36 * x + ct f (6 * i + 6))), .int (nI (36 * y + ct g (6 * i + 6))), .int (nI j1), .int (nI j2), .int (nI j2), .int (nI 0)] dX0_mergeRow_105 (by decide) (Nat.le_of_ble_eq_true rfl) rfl ?_
          refine x_iload K dX0_mergeRow_107 rfl ?_
          refine x_iload K dX0_mergeRow_109 rfl ?_
          refine x_cmpN_ne K 129 dX0_mergeRow_111 (by decide) (by omega) (by omega) (fun _ => ?_) (fun q => absurd q (by omega))
          refine x_iload K dX0_mergeRow_129 rfl ?_
          refine x_iload K dX0_mergeRow_131 rfl ?_
          refine x_cmpN_ne K 151 dX0_mergeRow_133 (by decide) (by omega) (by omega) (fun q => absurd q (by omega)) (fun _ => ?_)
          refine x_iload K dX0_mergeRow_136 rfl ?_
          refine x_aload_n K dX0_mergeRow_138 rfl ?_
          refine gtV K dX0_mergeRow_139 ?_
          refine x_iload K dX0_mergeRow_142 rfl ?_
          refine ldV K (36 * y + ct g (6 * i + j)) (rfl) (by omega) (x := (g (6 * i + j2))) (b7) dX0_mergeRow_144 ?_
          refine x_iadd K dX0_mergeRow_145 ?_
          refine x_istore K [.ref (ad 0), .int (nI x), .int (nI y), .int (nI i), .int (nI (36 * x + ct f (6 * i + j))), .int (nI (36 * y + ct g (6 * i + j))), .int (nI (36 * x + ct f (6 * i + 6))), .int (nI (36 * y + ct g (6 * i + 6))), .int (nI j1), .int (nI j2), .int (nI j2), .int (((nI 0)) + ((g (6 * i + j2))))] dX0_mergeRow_146 (by decide) (Nat.le_of_ble_eq_true rfl) rfl ?_
          refine x_iinc1 K [.ref (ad 0), .int (nI x), .int (nI y), .int (nI i), .int (nI (36 * x + ct f (6 * i + j))), .int (nI (36 * y + ct g (6 * i + j) + 1)), .int (nI (36 * x + ct f (6 * i + 6))), .int (nI (36 * y + ct g (6 * i + 6))), .int (nI j1), .int (nI j2), .int (nI j2), .int (((nI 0)) + ((g (6 * i + j2))))] dX0_mergeRow_148 rfl (by decide) (Nat.le_of_ble_eq_true rfl) rfl ?_
          refine x_aload_n K dX0_mergeRow_151 rfl ?_
          refine x_iload K dX0_mergeRow_152 rfl ?_
          refine x_iload K dX0_mergeRow_154 rfl ?_
          refine caX_emit K (by decide) (b) (6 * i + j2) (mk_skip hM (by omega) (fun c h1 h2 => by rw [hb c (by omega), show c = 6 * i + (c - 6 * i) by omega, a4 _ (by omega) (by omega), b4 _ (by omega) (by omega)]; exact Int32.add_zero 0)) (by omega) (by omega) (by rw [hb _ (by omega), a4 j2 (by omega) (by omega), z_add, Int32.zero_add]) (Nat.le_of_ble_eq_true rfl) dX0_mergeRow_156 (fun NC NV mk hM => ?_)
          refine x_goto K 32 dX0_mergeRow_159 (by decide) ?_
          refine x_drop [.ref (ad 0), .int (nI x), .int (nI y), .int (nI i), .int (nI (36 * x + ct f (6 * i + j))), .int (nI (36 * y + ct g (6 * i + j) + 1)), .int (nI (36 * x + ct f (6 * i + 6))), .int (nI (36 * y + ct g (6 * i + 6)))] 8 rfl ?_
          have sf : ct f (6 * i + (j2 + 1)) = ct f (6 * i + j) := ct_run (by omega) (fun c h1 h2 => by rw [show c = 6 * i + (c - 6 * i) by omega]; exact a4 (c - 6 * i) (by omega) (by omega))
          rw [show 36 * y + ct g (6 * i + j) + 1 = 36 * y + ct g (6 * i + (j2 + 1)) by omega, show 36 * x + ct f (6 * i + j) = 36 * x + ct f (6 * i + (j2 + 1)) by omega]
          exact ih (j2 + 1) NC NV mk (by omega) (by omega) hM
  exact key 7 0 NC NV mk (by omega) (by omega) hM
theorem caX_mergeRow {p : Program} {l : Launch} {e : Env} {R : Room} {s : State} {m : MethodId} {args : Array Value} {below : List Frame} {meth : Method} {c : Code} {cells slots : Nat} {Q : State → Prop} {cc : ByteArray} {pc nL dR : Nat} {st : List Value} {lv : List Value} {A : Nat → Prop} {D : va_G} {ad : Nat → Nat} {bd : Nat → ClassId} {S C V NS NC NV : Nat → Int32} {mk : Nat} {Wk : Nat → Int32} (K : XC p R s m args c cells slots D A (tyX bd) nL cc RX0 dR) (hdR : 2 ≤ dR) {b f g : Nat → Int32} {x y i : Nat} (hx : x < 5) (hy : y < 5) (hi : i < 6) (hf : RepS S C V x f) (hg : RepS S C V y g) (hb : ∀ c, c < 36 → b c = f c + g c) (hM : Mk b (6 * i) NC NV mk) (hroom : (st.map fun v => v.category).sum ≤ 8) (hdg : decode cc pc = .ok (.invokevirtual 71, 3)) (kk : ∀ (NC NV : Nat → Int32) (mk : Nat), Mk b (6 * i + 6) NC NV mk → XW p l e R s m args below meth c cells slots Q D A nL (wX ad bd S C V NS NC NV mk Wk) (pc + 3) lv st) : XW p l e R s m args below meth c cells slots Q D A nL (wX ad bd S C V NS NC NV mk Wk) pc lv (.int (nI i) :: .int (nI y) :: .int (nI x) :: .ref (ad 0) :: st) :=
  x_callV (n := 3) K (ctX_mergeRow l hx hy hi hf hg hb hM) q101 q103 qs8 q18 q104 (by decide +kernel) hdR (by decide) rfl rfl rfl rfl hroom hdg (fun u h => kk u.1 u.2.1 u.2.2 h)
set_option maxHeartbeats 8000000 in
theorem ctX_crossRow (l : Launch) {D : va_G} {ad : Nat → Nat} {bd : Nat → ClassId} {S C V NS NC NV : Nat → Int32} {mk : Nat} {Wk : Nat → Int32} {b f g : Nat → Int32} {x y i : Nat} (hx : x < 5) (hy : y < 5) (hi : i < 6) (hf : RepS S C V x f) (hg : RepS S C V y g) (hb : ∀ c, c < 36 → b c = f c * g c) (hM : Mk b (6 * i) NC NV mk) : CtV l yX0_crossRow cX0_crossRow 8 1 D (tyX bd) [.ref (ad 0), .int (nI x), .int (nI y), .int (nI i)] (wX ad bd S C V NS NC NV mk Wk) (fun (u : (Nat → Int32) × (Nat → Int32) × Nat) => Mk b (6 * i + 6) u.1 u.2.1 u.2.2) (fun u => wX ad bd S C V NS u.1 u.2.1 u.2.2 Wk) := by
  refine x_enterV (own := RX0) (by decide) rfl (Nat.le_of_ble_eq_true rfl) (by simp [Value.category]) ?_
  intro p e s m args below meth c A K hr hlocks
  obtain ⟨Q0, hQ0⟩ : ∃ Q0 : State → Prop, Q0 = XQv below args s D (tyX bd) A (fun (u : (Nat → Int32) × (Nat → Int32) × Nat) => Mk b (6 * i + 6) u.1 u.2.1 u.2.2) (fun u => wX ad bd S C V NS u.1 u.2.1 u.2.2 Wk) := ⟨_, rfl⟩
  rw [← hQ0]
  refine x_aload_n K dX0_crossRow_0 rfl ?_
  refine x_iload_n K dX0_crossRow_1 rfl ?_
  refine x_iload_n K dX0_crossRow_2 rfl ?_
  refine caX_from K (by decide) hf hx hi (Nat.le_of_ble_eq_true rfl) dX0_crossRow_3 ?_
  refine x_istore K [.ref (ad 0), .int (nI x), .int (nI y), .int (nI i), .int (nI (36 * x + ct f (6 * i)))] dX0_crossRow_6 (by decide) (Nat.le_of_ble_eq_true rfl) rfl ?_
  refine x_aload_n K dX0_crossRow_8 rfl ?_
  refine x_iload_n K dX0_crossRow_9 rfl ?_
  refine x_iload_n K dX0_crossRow_10 rfl ?_
  refine caX_from K (by decide) hg hy hi (Nat.le_of_ble_eq_true rfl) dX0_crossRow_11 ?_
  refine x_istore K [.ref (ad 0), .int (nI x), .int (nI y), .int (nI i), .int (nI (36 * x + ct f (6 * i))), .int (nI (36 * y + ct g (6 * i)))] dX0_crossRow_14 (by decide) (Nat.le_of_ble_eq_true rfl) rfl ?_
  refine x_aload_n K dX0_crossRow_16 rfl ?_
  refine x_iload_n K dX0_crossRow_17 rfl ?_
  refine x_iload_n K dX0_crossRow_18 rfl ?_
  refine caX_upTo K (by decide) hf hx hi (Nat.le_of_ble_eq_true rfl) dX0_crossRow_19 ?_
  refine x_istore K [.ref (ad 0), .int (nI x), .int (nI y), .int (nI i), .int (nI (36 * x + ct f (6 * i))), .int (nI (36 * y + ct g (6 * i))), .int (nI (36 * x + ct f (6 * i + 6)))] dX0_crossRow_22 (by decide) (Nat.le_of_ble_eq_true rfl) rfl ?_
  refine x_aload_n K dX0_crossRow_24 rfl ?_
  refine x_iload_n K dX0_crossRow_25 rfl ?_
  refine x_iload_n K dX0_crossRow_26 rfl ?_
  refine caX_upTo K (by decide) hg hy hi (Nat.le_of_ble_eq_true rfl) dX0_crossRow_27 ?_
  refine x_istore K [.ref (ad 0), .int (nI x), .int (nI y), .int (nI i), .int (nI (36 * x + ct f (6 * i))), .int (nI (36 * y + ct g (6 * i))), .int (nI (36 * x + ct f (6 * i + 6))), .int (nI (36 * y + ct g (6 * i + 6)))] dX0_crossRow_30 (by decide) (Nat.le_of_ble_eq_true rfl) rfl ?_
  have key : ∀ (n : Nat) (j : Nat) (NC NV : Nat → Int32) (mk : Nat), j ≤ 6 → 6 < j + n → Mk b (6 * i + j) NC NV mk → XW p l e (rD 1) s m args below meth c 0 0 Q0 D A 8 (wX ad bd S C V NS NC NV mk Wk) 32 [.ref (ad 0), .int (nI x), .int (nI y), .int (nI i), .int (nI (36 * x + ct f (6 * i + j))), .int (nI (36 * y + ct g (6 * i + j))), .int (nI (36 * x + ct f (6 * i + 6))), .int (nI (36 * y + ct g (6 * i + 6)))] [] := by
    intro n
    induction n with
    | zero =>
      intro j NC NV mk hj hn hM
      exact absurd hn (by omega)
    | succ n ih =>
      intro j NC NV mk hj hn hM
      have l1 := ct_row_le (f := f) hi hj
      have l2 := ct_row_le (f := g) hi hj
      have l3 := ct_row_le (f := f) hi (Nat.le_refl 6)
      have l4 := ct_row_le (f := g) hi (Nat.le_refl 6)
      rcases it_row hf hi hj with ⟨e1, zf⟩ | ⟨j1, a1, a2, a3, a4, a5, a6, a7, a8⟩
      · skip
        refine x_iload K dX0_crossRow_32 rfl ?_
        refine x_iload K dX0_crossRow_34 rfl ?_
        refine x_cmpN_ge K 127 dX0_crossRow_36 (by decide) (by omega) (by omega) (fun _ => ?_) (fun q => absurd q (by omega))
        rw [hQ0]
        exact x_vret K hr hlocks dX0_crossRow_127 (NC, NV, mk) (rfl) (mk_skip hM (by omega) (fun c h1 h2 => by rw [hb c (by omega), show c = 6 * i + (c - 6 * i) by omega, zf _ (by omega) (by omega), Int32.zero_mul]))
      · skip
        rcases it_row hg hi hj with ⟨e2, zg⟩ | ⟨j2, b1, b2, b3, b4, b5, b6, b7, b8⟩
        · skip
          refine x_iload K dX0_crossRow_32 rfl ?_
          refine x_iload K dX0_crossRow_34 rfl ?_
          refine x_cmpN_ge K 127 dX0_crossRow_36 (by decide) (by omega) (by omega) (fun q => absurd q (by omega)) (fun _ => ?_)
          refine x_iload K dX0_crossRow_39 rfl ?_
          refine x_iload K dX0_crossRow_41 rfl ?_
          refine x_cmpN_ge K 127 dX0_crossRow_43 (by decide) (by omega) (by omega) (fun _ => ?_) (fun q => absurd q (by omega))
          rw [hQ0]
          exact x_vret K hr hlocks dX0_crossRow_127 (NC, NV, mk) (rfl) (mk_skip hM (by omega) (fun c h1 h2 => by rw [hb c (by omega), show c = 6 * i + (c - 6 * i) by omega, zg _ (by omega) (by omega), Int32.mul_zero]))
        · skip
          rcases Nat.lt_trichotomy j1 j2 with hl | hl | hl
          · skip
            refine x_iload K dX0_crossRow_32 rfl ?_
            refine x_iload K dX0_crossRow_34 rfl ?_
            refine x_cmpN_ge K 127 dX0_crossRow_36 (by decide) (by omega) (by omega) (fun q => absurd q (by omega)) (fun _ => ?_)
            refine x_iload K dX0_crossRow_39 rfl ?_
            refine x_iload K dX0_crossRow_41 rfl ?_
            refine x_cmpN_ge K 127 dX0_crossRow_43 (by decide) (by omega) (by omega) (fun q => absurd q (by omega)) (fun _ => ?_)
            refine x_aload_n K dX0_crossRow_46 rfl ?_
            refine gtC K dX0_crossRow_47 ?_
            refine x_iload K dX0_crossRow_50 rfl ?_
            refine ldC K (36 * x + ct f (6 * i + j)) (rfl) (by omega) (x := (nI j1)) (a6) dX0_crossRow_52 ?_
            refine x_aload_n K dX0_crossRow_53 rfl ?_
            refine gtC K dX0_crossRow_54 ?_
            refine x_iload K dX0_crossRow_57 rfl ?_
            refine ldC K (36 * y + ct g (6 * i + j)) (rfl) (by omega) (x := (nI j2)) (b6) dX0_crossRow_59 ?_
            refine x_cmpN_ne K 98 dX0_crossRow_60 (by decide) (by omega) (by omega) (fun _ => ?_) (fun q => absurd q (by omega))
            refine x_aload_n K dX0_crossRow_98 rfl ?_
            refine gtC K dX0_crossRow_99 ?_
            refine x_iload K dX0_crossRow_102 rfl ?_
            refine ldC K (36 * x + ct f (6 * i + j)) (rfl) (by omega) (x := (nI j1)) (a6) dX0_crossRow_104 ?_
            refine x_aload_n K dX0_crossRow_105 rfl ?_
            refine gtC K dX0_crossRow_106 ?_
            refine x_iload K dX0_crossRow_109 rfl ?_
            refine ldC K (36 * y + ct g (6 * i + j)) (rfl) (by omega) (x := (nI j2)) (b6) dX0_crossRow_111 ?_
            refine x_cmpN_ge K 121 dX0_crossRow_112 (by decide) (by omega) (by omega) (fun q => absurd q (by omega)) (fun _ => ?_)
            refine x_iinc1 K [.ref (ad 0), .int (nI x), .int (nI y), .int (nI i), .int (nI (36 * x + ct f (6 * i + j) + 1)), .int (nI (36 * y + ct g (6 * i + j))), .int (nI (36 * x + ct f (6 * i + 6))), .int (nI (36 * y + ct g (6 * i + 6)))] dX0_crossRow_115 rfl (by decide) (Nat.le_of_ble_eq_true rfl) rfl ?_
            refine x_goto K 32 dX0_crossRow_118 (by decide) ?_
            have sg : ct g (6 * i + (j1 + 1)) = ct g (6 * i + j) := ct_run (by omega) (fun c h1 h2 => by rw [show c = 6 * i + (c - 6 * i) by omega]; exact b4 (c - 6 * i) (by omega) (by omega))
            rw [show 36 * x + ct f (6 * i + j) + 1 = 36 * x + ct f (6 * i + (j1 + 1)) by omega, show 36 * y + ct g (6 * i + j) = 36 * y + ct g (6 * i + (j1 + 1)) by omega]
            exact ih (j1 + 1) NC NV mk (by omega) (by omega) (mk_skip hM (by omega) (fun c h1 h2 => by rw [hb c (by omega), show c = 6 * i + (c - 6 * i) by omega, b4 _ (by omega) (by omega), Int32.mul_zero]))
          · skip
            subst hl
            refine x_iload K dX0_crossRow_32 rfl ?_
            refine x_iload K dX0_crossRow_34 rfl ?_
            refine x_cmpN_ge K 127 dX0_crossRow_36 (by decide) (by omega) (by omega) (fun q => absurd q (by omega)) (fun _ => ?_)
            refine x_iload K dX0_crossRow_39 rfl ?_
            refine x_iload K dX0_crossRow_41 rfl ?_
            refine x_cmpN_ge K 127 dX0_crossRow_43 (by decide) (by omega) (by omega) (fun q => absurd q (by omega)) (fun _ => ?_)
            refine x_aload_n K dX0_crossRow_46 rfl ?_
            refine gtC K dX0_crossRow_47 ?_
            refine x_iload K dX0_crossRow_50 rfl ?_
            refine ldC K (36 * x + ct f (6 * i + j)) (rfl) (by omega) (x := (nI j1)) (a6) dX0_crossRow_52 ?_
            refine x_aload_n K dX0_crossRow_53 rfl ?_
            refine gtC K dX0_crossRow_54 ?_
            refine x_iload K dX0_crossRow_57 rfl ?_
            refine ldC K (36 * y + ct g (6 * i + j)) (rfl) (by omega) (x := (nI j1)) (b6) dX0_crossRow_59 ?_
            refine x_cmpN_ne K 98 dX0_crossRow_60 (by decide) (by omega) (by omega) (fun q => absurd q (by omega)) (fun _ => ?_)
            refine x_aload_n K dX0_crossRow_63 rfl ?_
            refine x_aload_n K dX0_crossRow_64 rfl ?_
            refine gtC K dX0_crossRow_65 ?_
            refine x_iload K dX0_crossRow_68 rfl ?_
            refine ldC K (36 * x + ct f (6 * i + j)) (rfl) (by omega) (x := (nI j1)) (a6) dX0_crossRow_70 ?_
            refine x_aload_n K dX0_crossRow_71 rfl ?_
            refine gtV K dX0_crossRow_72 ?_
            refine x_iload K dX0_crossRow_75 rfl ?_
            refine ldV K (36 * x + ct f (6 * i + j)) (rfl) (by omega) (x := (f (6 * i + j1))) (a7) dX0_crossRow_77 ?_
            refine x_aload_n K dX0_crossRow_78 rfl ?_
            refine gtV K dX0_crossRow_79 ?_
            refine x_iload K dX0_crossRow_82 rfl ?_
            refine ldV K (36 * y + ct g (6 * i + j)) (rfl) (by omega) (x := (g (6 * i + j1))) (b7) dX0_crossRow_84 ?_
            refine x_imul K dX0_crossRow_85 ?_
            refine caX_emit K (by decide) (b) (6 * i + j1) (mk_skip hM (by omega) (fun c h1 h2 => by rw [hb c (by omega), show c = 6 * i + (c - 6 * i) by omega, b4 _ (by omega) (by omega), Int32.mul_zero])) (by omega) (by omega) (by rw [hb _ (by omega)]) (Nat.le_of_ble_eq_true rfl) dX0_crossRow_86 (fun NC NV mk hM => ?_)
            refine x_iinc1 K [.ref (ad 0), .int (nI x), .int (nI y), .int (nI i), .int (nI (36 * x + ct f (6 * i + j) + 1)), .int (nI (36 * y + ct g (6 * i + j))), .int (nI (36 * x + ct f (6 * i + 6))), .int (nI (36 * y + ct g (6 * i + 6)))] dX0_crossRow_89 rfl (by decide) (Nat.le_of_ble_eq_true rfl) rfl ?_
            refine x_iinc1 K [.ref (ad 0), .int (nI x), .int (nI y), .int (nI i), .int (nI (36 * x + ct f (6 * i + j) + 1)), .int (nI (36 * y + ct g (6 * i + j) + 1)), .int (nI (36 * x + ct f (6 * i + 6))), .int (nI (36 * y + ct g (6 * i + 6)))] dX0_crossRow_92 rfl (by decide) (Nat.le_of_ble_eq_true rfl) rfl ?_
            refine x_goto K 32 dX0_crossRow_95 (by decide) ?_
            rw [show 36 * x + ct f (6 * i + j) + 1 = 36 * x + ct f (6 * i + (j1 + 1)) by omega, show 36 * y + ct g (6 * i + j) + 1 = 36 * y + ct g (6 * i + (j1 + 1)) by omega]
            exact ih (j1 + 1) NC NV mk (by omega) (by omega) hM
          · skip
            refine x_iload K dX0_crossRow_32 rfl ?_
            refine x_iload K dX0_crossRow_34 rfl ?_
            refine x_cmpN_ge K 127 dX0_crossRow_36 (by decide) (by omega) (by omega) (fun q => absurd q (by omega)) (fun _ => ?_)
            refine x_iload K dX0_crossRow_39 rfl ?_
            refine x_iload K dX0_crossRow_41 rfl ?_
            refine x_cmpN_ge K 127 dX0_crossRow_43 (by decide) (by omega) (by omega) (fun q => absurd q (by omega)) (fun _ => ?_)
            refine x_aload_n K dX0_crossRow_46 rfl ?_
            refine gtC K dX0_crossRow_47 ?_
            refine x_iload K dX0_crossRow_50 rfl ?_
            refine ldC K (36 * x + ct f (6 * i + j)) (rfl) (by omega) (x := (nI j1)) (a6) dX0_crossRow_52 ?_
            refine x_aload_n K dX0_crossRow_53 rfl ?_
            refine gtC K dX0_crossRow_54 ?_
            refine x_iload K dX0_crossRow_57 rfl ?_
            refine ldC K (36 * y + ct g (6 * i + j)) (rfl) (by omega) (x := (nI j2)) (b6) dX0_crossRow_59 ?_
            refine x_cmpN_ne K 98 dX0_crossRow_60 (by decide) (by omega) (by omega) (fun _ => ?_) (fun q => absurd q (by omega))
            refine x_aload_n K dX0_crossRow_98 rfl ?_
            refine gtC K dX0_crossRow_99 ?_
            refine x_iload K dX0_crossRow_102 rfl ?_
            refine ldC K (36 * x + ct f (6 * i + j)) (rfl) (by omega) (x := (nI j1)) (a6) dX0_crossRow_104 ?_
            refine x_aload_n K dX0_crossRow_105 rfl ?_
            refine gtC K dX0_crossRow_106 ?_
            refine x_iload K dX0_crossRow_109 rfl ?_
            refine ldC K (36 * y + ct g (6 * i + j)) (rfl) (by omega) (x := (nI j2)) (b6) dX0_crossRow_111 ?_
            refine x_cmpN_ge K 121 dX0_crossRow_112 (by decide) (by omega) (by omega) (fun _ => ?_) (fun q => absurd q (by omega))
            refine x_iinc1 K [.ref (ad 0), .int (nI x), .int (nI y), .int (nI i), .int (nI (36 * x + ct f (6 * i + j))), .int (nI (36 * y + ct g (6 * i + j) + 1)), .int (nI (36 * x + ct f (6 * i + 6))), .int (nI (36 * y + ct g (6 * i + 6)))] dX0_crossRow_121 rfl (by decide) (Nat.le_of_ble_eq_true rfl) rfl ?_
            refine x_goto K 32 dX0_crossRow_124 (by decide) ?_
            have sf : ct f (6 * i + (j2 + 1)) = ct f (6 * i + j) := ct_run (by omega) (fun c h1 h2 => by rw [show c = 6 * i + (c - 6 * i) by omega]; exact a4 (c - 6 * i) (by omega) (by omega))
            rw [show 36 * y + ct g (6 * i + j) + 1 = 36 * y + ct g (6 * i + (j2 + 1)) by omega, show 36 * x + ct f (6 * i + j) = 36 * x + ct f (6 * i + (j2 + 1)) by omega]
            exact ih (j2 + 1) NC NV mk (by omega) (by omega) (mk_skip hM (by omega) (fun c h1 h2 => by rw [hb c (by omega), show c = 6 * i + (c - 6 * i) by omega, a4 _ (by omega) (by omega), Int32.zero_mul]))
  exact key 7 0 NC NV mk (by omega) (by omega) hM
theorem caX_crossRow {p : Program} {l : Launch} {e : Env} {R : Room} {s : State} {m : MethodId} {args : Array Value} {below : List Frame} {meth : Method} {c : Code} {cells slots : Nat} {Q : State → Prop} {cc : ByteArray} {pc nL dR : Nat} {st : List Value} {lv : List Value} {A : Nat → Prop} {D : va_G} {ad : Nat → Nat} {bd : Nat → ClassId} {S C V NS NC NV : Nat → Int32} {mk : Nat} {Wk : Nat → Int32} (K : XC p R s m args c cells slots D A (tyX bd) nL cc RX0 dR) (hdR : 2 ≤ dR) {b f g : Nat → Int32} {x y i : Nat} (hx : x < 5) (hy : y < 5) (hi : i < 6) (hf : RepS S C V x f) (hg : RepS S C V y g) (hb : ∀ c, c < 36 → b c = f c * g c) (hM : Mk b (6 * i) NC NV mk) (hroom : (st.map fun v => v.category).sum ≤ 8) (hdg : decode cc pc = .ok (.invokevirtual 75, 3)) (kk : ∀ (NC NV : Nat → Int32) (mk : Nat), Mk b (6 * i + 6) NC NV mk → XW p l e R s m args below meth c cells slots Q D A nL (wX ad bd S C V NS NC NV mk Wk) (pc + 3) lv st) : XW p l e R s m args below meth c cells slots Q D A nL (wX ad bd S C V NS NC NV mk Wk) pc lv (.int (nI i) :: .int (nI y) :: .int (nI x) :: .ref (ad 0) :: st) :=
  x_callV (n := 3) K (ctX_crossRow l hx hy hi hf hg hb hM) q109 q111 qs9 q18 q112 (by decide +kernel) hdR (by decide) rfl rfl rfl rfl hroom hdg (fun u h => kk u.1 u.2.1 u.2.2 h)
end
section
set_option maxRecDepth 100000
/-! SparseKernels: productRow, find -/
theorem en_step {f g : Nat → Int32} {i j1 c : Nat} : sm (fun k => f (6 * i + k) * g (6 * k + c)) (j1 + 1) = sm (fun k => f (6 * i + k) * g (6 * k + c)) j1 + f (6 * i + j1) * g (6 * j1 + c) := rfl
theorem en_step0 {f g : Nat → Int32} {i j1 c : Nat} (h : g (6 * j1 + c) = 0) : sm (fun k => f (6 * i + k) * g (6 * k + c)) (j1 + 1) = sm (fun k => f (6 * i + k) * g (6 * k + c)) j1 := by
  rw [en_step, h, Int32.mul_zero, Int32.add_zero]
theorem en_run {f g : Nat → Int32} {i j j1 c : Nat} (hj : j ≤ j1) (h : ∀ d, j ≤ d → d < j1 → f (6 * i + d) = 0) : sm (fun k => f (6 * i + k) * g (6 * k + c)) j1 = sm (fun k => f (6 * i + k) * g (6 * k + c)) j := by
  refine sm_run hj (fun k h1 h2 => ?_)
  show f (6 * i + k) * g (6 * k + c) = 0
  rw [h k h1 h2, Int32.zero_mul]
set_option maxHeartbeats 8000000 in
theorem ctX_productRow (l : Launch) {D : va_G} {ad : Nat → Nat} {bd : Nat → ClassId} {S C V NS NC NV : Nat → Int32} {mk : Nat} {Wk : Nat → Int32} {f g : Nat → Int32} {x y i : Nat} (hx : x < 5) (hy : y < 5) (hi : i < 6) (hf : RepS S C V x f) (hg : RepS S C V y g) : CtV l yX0_productRow cX0_productRow 7 1 D (tyX bd) [.ref (ad 0), .int (nI x), .int (nI y), .int (nI i)] (wX ad bd S C V NS NC NV mk Wk) (fun (u : Nat → Int32) => ∀ j, j < 6 → u j = en f g i j) (fun u => wX ad bd S C V NS NC NV mk u) := by
  refine x_enterV (own := RX0) (by decide) rfl (Nat.le_of_ble_eq_true rfl) (by simp [Value.category]) ?_
  intro p e s m args below meth c A K hr hlocks
  obtain ⟨Q0, hQ0⟩ : ∃ Q0 : State → Prop, Q0 = XQv below args s D (tyX bd) A (fun (u : Nat → Int32) => ∀ j, j < 6 → u j = en f g i j) (fun u => wX ad bd S C V NS NC NV mk u) := ⟨_, rfl⟩
  rw [← hQ0]
  refine x_aload_n K dX0_productRow_0 rfl ?_
  refine caX_clearWork K (by decide) (Nat.le_of_ble_eq_true rfl) dX0_productRow_1 (fun Wk hWz => ?_)
  refine x_aload_n K dX0_productRow_4 rfl ?_
  refine x_iload_n K dX0_productRow_5 rfl ?_
  refine x_iload_n K dX0_productRow_6 rfl ?_
  refine caX_from K (by decide) hf hx hi (Nat.le_of_ble_eq_true rfl) dX0_productRow_7 ?_
  refine x_istore K [.ref (ad 0), .int (nI x), .int (nI y), .int (nI i), .int (nI (36 * x + ct f (6 * i)))] dX0_productRow_10 (by decide) (Nat.le_of_ble_eq_true rfl) rfl ?_
  have key : ∀ (n : Nat) (j : Nat) (Wk : Nat → Int32), j ≤ 6 → 6 < j + n → (∀ c, c < 6 → Wk c = sm (fun k => f (6 * i + k) * g (6 * k + c)) j) → XW p l e (rD 1) s m args below meth c 0 0 Q0 D A 7 (wX ad bd S C V NS NC NV mk Wk) 12 [.ref (ad 0), .int (nI x), .int (nI y), .int (nI i), .int (nI (36 * x + ct f (6 * i + j)))] [] := by
    intro n
    induction n with
    | zero =>
      intro j Wk hj hn hW
      exact absurd hn (by omega)
    | succ n ih =>
      intro j Wk hj hn hW
      have l1 := ct_row_le (f := f) hi hj
      have l3 := ct_row_le (f := f) hi (Nat.le_refl 6)
      rcases it_row hf hi hj with ⟨e1, zf⟩ | ⟨j1, a1, a2, a3, a4, a5, a6, a7, a8⟩
      · skip
        refine x_iload K dX0_productRow_12 rfl ?_
        refine x_aload_n K dX0_productRow_14 rfl ?_
        refine x_iload_n K dX0_productRow_15 rfl ?_
        refine x_iload_n K dX0_productRow_16 rfl ?_
        refine caX_upTo K (by decide) hf hx hi (Nat.le_of_ble_eq_true rfl) dX0_productRow_17 ?_
        refine x_cmpN_ge K 95 dX0_productRow_20 (by decide) (by omega) (by omega) (fun _ => ?_) (fun q => absurd q (by omega))
        rw [hQ0]
        exact x_vret K hr hlocks dX0_productRow_95 Wk (rfl) (fun c hc => by rw [hW c hc]; exact (en_run hj (fun d h1 h2 => zf d h1 h2)).symm)
      · skip
        refine x_iload K dX0_productRow_12 rfl ?_
        refine x_aload_n K dX0_productRow_14 rfl ?_
        refine x_iload_n K dX0_productRow_15 rfl ?_
        refine x_iload_n K dX0_productRow_16 rfl ?_
        refine caX_upTo K (by decide) hf hx hi (Nat.le_of_ble_eq_true rfl) dX0_productRow_17 ?_
        refine x_cmpN_ge K 95 dX0_productRow_20 (by decide) (by omega) (by omega) (fun q => absurd q (by omega)) (fun _ => ?_)
        refine x_aload_n K dX0_productRow_23 rfl ?_
        refine gtC K dX0_productRow_24 ?_
        refine x_iload K dX0_productRow_27 rfl ?_
        refine ldC K (36 * x + ct f (6 * i + j)) (rfl) (by omega) (x := (nI j1)) (a6) dX0_productRow_29 ?_
        refine x_istore K [.ref (ad 0), .int (nI x), .int (nI y), .int (nI i), .int (nI (36 * x + ct f (6 * i + j))), .int (nI j1)] dX0_productRow_30 (by decide) (Nat.le_of_ble_eq_true rfl) rfl ?_
        refine x_aload_n K dX0_productRow_32 rfl ?_
        refine x_iload_n K dX0_productRow_33 rfl ?_
        refine x_iload K dX0_productRow_34 rfl ?_
        refine caX_from K (by decide) hg hy a2 (Nat.le_of_ble_eq_true rfl) dX0_productRow_36 ?_
        refine x_istore K [.ref (ad 0), .int (nI x), .int (nI y), .int (nI i), .int (nI (36 * x + ct f (6 * i + j))), .int (nI j1), .int (nI (36 * y + ct g (6 * j1)))] dX0_productRow_39 (by decide) (Nat.le_of_ble_eq_true rfl) rfl ?_
        have key2 : ∀ (n2 : Nat) (d : Nat) (Wk : Nat → Int32), d ≤ 6 → 6 < d + n2 → (∀ c, c < 6 → Wk c = if c < d then sm (fun k => f (6 * i + k) * g (6 * k + c)) (j1 + 1) else sm (fun k => f (6 * i + k) * g (6 * k + c)) j1) → XW p l e (rD 1) s m args below meth c 0 0 Q0 D A 7 (wX ad bd S C V NS NC NV mk Wk) 41 [.ref (ad 0), .int (nI x), .int (nI y), .int (nI i), .int (nI (36 * x + ct f (6 * i + j))), .int (nI j1), .int (nI (36 * y + ct g (6 * j1 + d)))] [] := by
          intro n2
          induction n2 with
          | zero =>
            intro d Wk hd hn2 hW2
            exact absurd hn2 (by omega)
          | succ n2 ih2 =>
            intro d Wk hd hn2 hW2
            have m1 := ct_row_le (f := g) a2 hd
            have m3 := ct_row_le (f := g) a2 (Nat.le_refl 6)
            rcases it_row hg a2 hd with ⟨e2, zg⟩ | ⟨d1, b1, b2, b3, b4, b5, b6, b7, b8⟩
            · skip
              refine x_iload K dX0_productRow_41 rfl ?_
              refine x_aload_n K dX0_productRow_43 rfl ?_
              refine x_iload_n K dX0_productRow_44 rfl ?_
              refine x_iload K dX0_productRow_45 rfl ?_
              refine caX_upTo K (by decide) hg hy a2 (Nat.le_of_ble_eq_true rfl) dX0_productRow_47 ?_
              refine x_cmpN_ge K 89 dX0_productRow_50 (by decide) (by omega) (by omega) (fun _ => ?_) (fun q => absurd q (by omega))
              refine x_iinc1 K [.ref (ad 0), .int (nI x), .int (nI y), .int (nI i), .int (nI (36 * x + ct f (6 * i + j) + 1)), .int (nI j1), .int (nI (36 * y + ct g (6 * j1 + d)))] dX0_productRow_89 rfl (by decide) (Nat.le_of_ble_eq_true rfl) rfl ?_
              refine x_goto K 12 dX0_productRow_92 (by decide) ?_
              refine x_drop [.ref (ad 0), .int (nI x), .int (nI y), .int (nI i), .int (nI (36 * x + ct f (6 * i + j) + 1))] 5 rfl ?_
              rw [show 36 * x + ct f (6 * i + j) + 1 = 36 * x + ct f (6 * i + (j1 + 1)) by omega]
              refine ih (j1 + 1) Wk (by omega) (by omega) (fun c hc => ?_)
              rw [hW2 c hc]
              split
              · rfl
              · exact (en_step0 (zg c (by omega) hc)).symm
            · skip
              refine x_iload K dX0_productRow_41 rfl ?_
              refine x_aload_n K dX0_productRow_43 rfl ?_
              refine x_iload_n K dX0_productRow_44 rfl ?_
              refine x_iload K dX0_productRow_45 rfl ?_
              refine caX_upTo K (by decide) hg hy a2 (Nat.le_of_ble_eq_true rfl) dX0_productRow_47 ?_
              refine x_cmpN_ge K 89 dX0_productRow_50 (by decide) (by omega) (by omega) (fun q => absurd q (by omega)) (fun _ => ?_)
              refine x_aload_n K dX0_productRow_53 rfl ?_
              refine gtWk K dX0_productRow_54 ?_
              refine x_aload_n K dX0_productRow_57 rfl ?_
              refine gtC K dX0_productRow_58 ?_
              refine x_iload K dX0_productRow_61 rfl ?_
              refine ldC K (36 * y + ct g (6 * j1 + d)) (rfl) (by omega) (x := (nI d1)) (b6) dX0_productRow_63 ?_
              refine x_dup2 K dX0_productRow_64 rfl rfl ?_
              refine ldWk K (d1) (rfl) (by omega) (x := (sm (fun k => f (6 * i + k) * g (6 * k + d1)) j1)) (by rw [hW2 d1 b2, if_neg (by omega)]) dX0_productRow_65 ?_
              refine x_aload_n K dX0_productRow_66 rfl ?_
              refine gtV K dX0_productRow_67 ?_
              refine x_iload K dX0_productRow_70 rfl ?_
              refine ldV K (36 * x + ct f (6 * i + j)) (rfl) (by omega) (x := (f (6 * i + j1))) (a7) dX0_productRow_72 ?_
              refine x_aload_n K dX0_productRow_73 rfl ?_
              refine gtV K dX0_productRow_74 ?_
              refine x_iload K dX0_productRow_77 rfl ?_
              refine ldV K (36 * y + ct g (6 * j1 + d)) (rfl) (by omega) (x := (g (6 * j1 + d1))) (b7) dX0_productRow_79 ?_
              refine x_imul K dX0_productRow_80 ?_
              refine x_iadd K dX0_productRow_81 ?_
              refine stWk K (d1) (rfl) (by omega) dX0_productRow_82 ?_
              refine x_iinc1 K [.ref (ad 0), .int (nI x), .int (nI y), .int (nI i), .int (nI (36 * x + ct f (6 * i + j))), .int (nI j1), .int (nI (36 * y + ct g (6 * j1 + d) + 1))] dX0_productRow_83 rfl (by decide) (Nat.le_of_ble_eq_true rfl) rfl ?_
              refine x_goto K 41 dX0_productRow_86 (by decide) ?_
              rw [show 36 * y + ct g (6 * j1 + d) + 1 = 36 * y + ct g (6 * j1 + (d1 + 1)) by omega]
              refine ih2 (d1 + 1) _ (by omega) (by omega) (fun c hc => ?_)
              rcases Nat.lt_trichotomy c d1 with hl | hl | hl
              · rw [pk_un (by omega), hW2 c hc, if_pos (show c < d1 + 1 by omega)]
                split
                · rfl
                · exact (en_step0 (b4 c (by omega) hl)).symm
              · subst hl
                rw [pk_us, if_pos (show c < c + 1 by omega)]
                rfl
              · rw [pk_un (by omega), hW2 c hc, if_neg (by omega), if_neg (by omega)]
        refine key2 7 0 Wk (by omega) (by omega) (fun c hc => ?_)
        rw [if_neg (by omega), hW c hc]
        exact (en_run a1 (fun d h1 h2 => a4 d h1 h2)).symm
  exact key 7 0 Wk (by omega) (by omega) (fun c hc => hWz c hc)
theorem caX_productRow {p : Program} {l : Launch} {e : Env} {R : Room} {s : State} {m : MethodId} {args : Array Value} {below : List Frame} {meth : Method} {c : Code} {cells slots : Nat} {Q : State → Prop} {cc : ByteArray} {pc nL dR : Nat} {st : List Value} {lv : List Value} {A : Nat → Prop} {D : va_G} {ad : Nat → Nat} {bd : Nat → ClassId} {S C V NS NC NV : Nat → Int32} {mk : Nat} {Wk : Nat → Int32} (K : XC p R s m args c cells slots D A (tyX bd) nL cc RX0 dR) (hdR : 2 ≤ dR) {f g : Nat → Int32} {x y i : Nat} (hx : x < 5) (hy : y < 5) (hi : i < 6) (hf : RepS S C V x f) (hg : RepS S C V y g) (hroom : (st.map fun v => v.category).sum ≤ 8) (hdg : decode cc pc = .ok (.invokevirtual 78, 3)) (kk : ∀ (Wk : Nat → Int32), (∀ j, j < 6 → Wk j = en f g i j) → XW p l e R s m args below meth c cells slots Q D A nL (wX ad bd S C V NS NC NV mk Wk) (pc + 3) lv st) : XW p l e R s m args below meth c cells slots Q D A nL (wX ad bd S C V NS NC NV mk Wk) pc lv (.int (nI i) :: .int (nI y) :: .int (nI x) :: .ref (ad 0) :: st) :=
  x_callV (n := 3) K (ctX_productRow l hx hy hi hf hg) q117 q119 qs10 q18 q120 (by decide +kernel) hdR (by decide) rfl rfl rfl rfl hroom hdg (fun u h => kk u h)
theorem fd_lt {h lo : Nat} (hl : h ≤ lo) (hb : lo < 2 ^ 29) : nI h - nI 1 < nI lo := by
  rw [Int32.lt_iff_toInt_lt, pk_sub_toInt (by omega) (by omega), nI_toInt (by omega)]
  omega
theorem fd_nlt {h lo : Nat} (hl : lo < h) (hb : h < 2 ^ 29) : ¬ nI h - nI 1 < nI lo := by
  rw [Int32.lt_iff_toInt_lt, pk_sub_toInt (by omega) (by omega), nI_toInt (by omega)]
  omega
theorem fd_mid {h lo : Nat} (hl : lo < h) (hb : h < 2 ^ 29) : (nI lo + (nI h - nI 1)) >>> (nI 1 &&& 31) = nI ((lo + h - 1) / 2) := by
  rw [pk_sub (by omega), nI_add, pk_shrN (by omega) (nI 1 &&& 31) 1 (by decide)]
  congr 1
  omega
/-- the place of an entry, or -1 -/
def fnd (f : Nat → Int32) (x i j : Nat) : Int32 := if f (6 * i + j) = 0 then -1 else nI (36 * x + ct f (6 * i + j))
theorem ct_add (f : Nat → Int32) (m : Nat) : ∀ k, ct f (m + k) ≤ ct f m + k
  | 0 => Nat.le_refl _
  | k + 1 => by
    have := ct_add f m k
    show ct f (m + k) + (if f (m + k) = 0 then 0 else 1) ≤ _
    split <;> omega
theorem ct_add6 (f : Nat → Int32) (m : Nat) : ct f (m + 6) ≤ ct f m + 6 := ct_add f m 6
set_option maxHeartbeats 8000000 in
theorem ctX_find (l : Launch) {D : va_G} {ad : Nat → Nat} {bd : Nat → ClassId} {S C V NS NC NV : Nat → Int32} {mk : Nat} {Wk : Nat → Int32} {f : Nat → Int32} {x i j : Nat} (hx : x < 5) (hi : i < 6) (hj : j < 6) (hf : RepS S C V x f) : CtI l yX0_find cX0_find 8 (some .int) 1 D (tyX bd) [.ref (ad 0), .int (nI x), .int (nI i), .int (nI j)] (wX ad bd S C V NS NC NV mk Wk) (fun r (_ : Unit) => r = fnd f x i j) (fun _ => wX ad bd S C V NS NC NV mk Wk) := by
  refine x_enterI (own := RX0) (by decide) rfl (Nat.le_of_ble_eq_true rfl) (by simp [Value.category]) ?_
  intro p e s m args below meth c A K hr hlocks
  obtain ⟨Q0, hQ0⟩ : ∃ Q0 : State → Prop, Q0 = XQi below args s D (tyX bd) A (fun r (_ : Unit) => r = fnd f x i j) (fun _ => wX ad bd S C V NS NC NV mk Wk) := ⟨_, rfl⟩
  rw [← hQ0]
  have l3 := ct_row_le (f := f) hi (Nat.le_refl 6)
  have l0 := ct_row_le (f := f) hi (Nat.zero_le 6)
  have l1 : ct f (6 * i) ≤ ct f (6 * i + 6) := ct_mono f (by omega)
  refine x_aload_n K dX0_find_0 rfl ?_
  refine x_iload_n K dX0_find_1 rfl ?_
  refine x_iload_n K dX0_find_2 rfl ?_
  refine caX_from K (by decide) hf hx hi (Nat.le_of_ble_eq_true rfl) dX0_find_3 ?_
  refine x_istore K [.ref (ad 0), .int (nI x), .int (nI i), .int (nI j), .int (nI (36 * x + ct f (6 * i)))] dX0_find_6 (by decide) (Nat.le_of_ble_eq_true rfl) rfl ?_
  refine x_aload_n K dX0_find_8 rfl ?_
  refine x_iload_n K dX0_find_9 rfl ?_
  refine x_iload_n K dX0_find_10 rfl ?_
  refine caX_upTo K (by decide) hf hx hi (Nat.le_of_ble_eq_true rfl) dX0_find_11 ?_
  refine x_iconst K (nI 1) dX0_find_14 (by decide) ?_
  refine x_isub K dX0_find_15 ?_
  refine x_istore K [.ref (ad 0), .int (nI x), .int (nI i), .int (nI j), .int (nI (36 * x + ct f (6 * i))), .int (((nI (36 * x + ct f (6 * i + 6)))) - ((nI 1)))] dX0_find_16 (by decide) (Nat.le_of_ble_eq_true rfl) rfl ?_
  refine x_iconst K (nI 0) dX0_find_18 (by decide) ?_
  refine x_istore K [.ref (ad 0), .int (nI x), .int (nI i), .int (nI j), .int (nI (36 * x + ct f (6 * i))), .int (((nI (36 * x + ct f (6 * i + 6)))) - ((nI 1))), .int (nI 0)] dX0_find_19 (by decide) (Nat.le_of_ble_eq_true rfl) rfl ?_
  have key : ∀ (n : Nat) (rd lo h : Nat), rd + n = 3 → h - lo < 2 ^ n → 36 * x + ct f (6 * i) ≤ lo → h ≤ 36 * x + ct f (6 * i + 6) → (f (6 * i + j) ≠ 0 → lo ≤ 36 * x + ct f (6 * i + j) ∧ 36 * x + ct f (6 * i + j) < h) → lo ≤ 300 → XW p l e (rD 1) s m args below meth c 0 0 Q0 D A 8 (wX ad bd S C V NS NC NV mk Wk) 21 [.ref (ad 0), .int (nI x), .int (nI i), .int (nI j), .int (nI lo), .int (nI h - nI 1), .int (nI rd)] [] := by
    intro n
    induction n with
    | zero =>
      intro rd lo h hrd hsz hlo hh hin hl3
      have hle : h ≤ lo := by omega
      refine x_iload K dX0_find_21 rfl ?_
      refine x_iconst K (nI 4) dX0_find_23 (by decide) ?_
      refine x_cmpN_ge K 89 dX0_find_24 (by decide) (by omega) (by omega) (fun q => absurd q (by omega)) (fun _ => ?_)
      refine x_iload K dX0_find_27 rfl ?_
      refine x_iload K dX0_find_29 rfl ?_
      refine x_cmp_gt K 89 dX0_find_31 (by decide) (fun _ => ?_) (fun q => absurd q (fun z => z (fd_lt hle (by omega))))
      refine x_iconst K (-1) dX0_find_89 (by decide) ?_
      rw [hQ0]
      exact x_iret K hr hlocks dX0_find_90 () (rfl) (by unfold fnd; rw [if_pos]; exact Classical.byContradiction (fun q => absurd (hin q) (by omega)))
    | succ n ih =>
      intro rd lo h hrd hsz hlo hh hin hl3
      by_cases hle : h ≤ lo
      · skip
        refine x_iload K dX0_find_21 rfl ?_
        refine x_iconst K (nI 4) dX0_find_23 (by decide) ?_
        refine x_cmpN_ge K 89 dX0_find_24 (by decide) (by omega) (by omega) (fun q => absurd q (by omega)) (fun _ => ?_)
        refine x_iload K dX0_find_27 rfl ?_
        refine x_iload K dX0_find_29 rfl ?_
        refine x_cmp_gt K 89 dX0_find_31 (by decide) (fun _ => ?_) (fun q => absurd q (fun z => z (fd_lt hle (by omega))))
        refine x_iconst K (-1) dX0_find_89 (by decide) ?_
        rw [hQ0]
        exact x_iret K hr hlocks dX0_find_90 () (rfl) (by unfold fnd; rw [if_pos]; exact Classical.byContradiction (fun q => absurd (hin q) (by omega)))
      · skip
        obtain ⟨md, hmd⟩ : ∃ md, md = (lo + h - 1) / 2 := ⟨_, rfl⟩
        obtain ⟨c0, c1, c2, c3, c4⟩ := ct_inv (f := f) (m := 6 * i) (n := 6 * i + 6) (k := md - 36 * x) (by omega) (by omega) (by omega)
        obtain ⟨j1, rfl⟩ : ∃ j1, c0 = 6 * i + j1 := ⟨c0 - 6 * i, by omega⟩
        have hC : C md = nI j1 := by
          have h9 := (hf.2 (6 * i + j1) (by omega) c3).1
          rw [c4, show 36 * x + (md - 36 * x) = md by omega] at h9
          rw [h9]; congr 1; omega
        have hp : 2 ^ (n + 1) = 2 * 2 ^ n := by rw [Nat.pow_succ]; omega
        refine x_iload K dX0_find_21 rfl ?_
        refine x_iconst K (nI 4) dX0_find_23 (by decide) ?_
        refine x_cmpN_ge K 89 dX0_find_24 (by decide) (by omega) (by omega) (fun q => absurd q (by omega)) (fun _ => ?_)
        refine x_iload K dX0_find_27 rfl ?_
        refine x_iload K dX0_find_29 rfl ?_
        refine x_cmp_gt K 89 dX0_find_31 (by decide) (fun q => absurd q (fd_nlt (by omega) (by omega))) (fun _ => ?_)
        refine x_iload K dX0_find_34 rfl ?_
        refine x_iload K dX0_find_36 rfl ?_
        refine x_iadd K dX0_find_38 ?_
        refine x_iconst K (nI 1) dX0_find_39 (by decide) ?_
        refine x_ishr K dX0_find_40 ?_
        refine x_top (y := (nI md)) (by rw [hmd]; exact fd_mid (by omega) (by omega)) ?_
        rcases Nat.lt_trichotomy j1 j with hl | hl | hl
        · skip
          refine x_istore K [.ref (ad 0), .int (nI x), .int (nI i), .int (nI j), .int (nI lo), .int (nI h - nI 1), .int (nI rd), .int (nI md)] dX0_find_41 (by decide) (Nat.le_of_ble_eq_true rfl) rfl ?_
          refine x_aload_n K dX0_find_43 rfl ?_
          refine gtC K dX0_find_44 ?_
          refine x_iload K dX0_find_47 rfl ?_
          refine ldC K (md) (rfl) (by omega) (x := (nI j1)) (hC) dX0_find_49 ?_
          refine x_iload_n K dX0_find_50 rfl ?_
          refine x_cmpN_ne K 57 dX0_find_51 (by decide) (by omega) (by omega) (fun _ => ?_) (fun q => absurd q (by omega))
          refine x_aload_n K dX0_find_57 rfl ?_
          refine gtC K dX0_find_58 ?_
          refine x_iload K dX0_find_61 rfl ?_
          refine ldC K (md) (rfl) (by omega) (x := (nI j1)) (hC) dX0_find_63 ?_
          refine x_iload_n K dX0_find_64 rfl ?_
          refine x_cmpN_ge K 77 dX0_find_65 (by decide) (by omega) (by omega) (fun q => absurd q (by omega)) (fun _ => ?_)
          refine x_iload K dX0_find_68 rfl ?_
          refine x_iconst K (nI 1) dX0_find_70 (by decide) ?_
          refine x_iaddN K dX0_find_71 ?_
          refine x_istore K [.ref (ad 0), .int (nI x), .int (nI i), .int (nI j), .int (nI (md + 1)), .int (nI h - nI 1), .int (nI rd), .int (nI md)] dX0_find_72 (by decide) (Nat.le_of_ble_eq_true rfl) rfl ?_
          refine x_goto K 83 dX0_find_74 (by decide) ?_
          refine x_iinc1 K [.ref (ad 0), .int (nI x), .int (nI i), .int (nI j), .int (nI (md + 1)), .int (nI h - nI 1), .int (nI (rd + 1)), .int (nI md)] dX0_find_83 rfl (by decide) (Nat.le_of_ble_eq_true rfl) rfl ?_
          refine x_goto K 21 dX0_find_86 (by decide) ?_
          refine x_drop [.ref (ad 0), .int (nI x), .int (nI i), .int (nI j), .int (nI (md + 1)), .int (nI h - nI 1), .int (nI (rd + 1))] 7 rfl ?_
          refine ih (rd + 1) (md + 1) h (by omega) (by omega) (by omega) hh (fun q => ?_) (by omega)
          have h5 := hin q
          have h6 := ct_lt (f := f) (show 6 * i + j1 < 6 * i + j by omega) c3
          omega
        · skip
          subst hl
          refine x_istore K [.ref (ad 0), .int (nI x), .int (nI i), .int (nI j1), .int (nI lo), .int (nI h - nI 1), .int (nI rd), .int (nI md)] dX0_find_41 (by decide) (Nat.le_of_ble_eq_true rfl) rfl ?_
          refine x_aload_n K dX0_find_43 rfl ?_
          refine gtC K dX0_find_44 ?_
          refine x_iload K dX0_find_47 rfl ?_
          refine ldC K (md) (rfl) (by omega) (x := (nI j1)) (hC) dX0_find_49 ?_
          refine x_iload_n K dX0_find_50 rfl ?_
          refine x_cmpN_ne K 57 dX0_find_51 (by decide) (by omega) (by omega) (fun q => absurd q (by omega)) (fun _ => ?_)
          refine x_iload K dX0_find_54 rfl ?_
          rw [hQ0]
          exact x_iret K hr hlocks dX0_find_56 () (rfl) (by unfold fnd; rw [if_neg c3]; congr 1; omega)
        · skip
          refine x_istore K [.ref (ad 0), .int (nI x), .int (nI i), .int (nI j), .int (nI lo), .int (nI h - nI 1), .int (nI rd), .int (nI md)] dX0_find_41 (by decide) (Nat.le_of_ble_eq_true rfl) rfl ?_
          refine x_aload_n K dX0_find_43 rfl ?_
          refine gtC K dX0_find_44 ?_
          refine x_iload K dX0_find_47 rfl ?_
          refine ldC K (md) (rfl) (by omega) (x := (nI j1)) (hC) dX0_find_49 ?_
          refine x_iload_n K dX0_find_50 rfl ?_
          refine x_cmpN_ne K 57 dX0_find_51 (by decide) (by omega) (by omega) (fun _ => ?_) (fun q => absurd q (by omega))
          refine x_aload_n K dX0_find_57 rfl ?_
          refine gtC K dX0_find_58 ?_
          refine x_iload K dX0_find_61 rfl ?_
          refine ldC K (md) (rfl) (by omega) (x := (nI j1)) (hC) dX0_find_63 ?_
          refine x_iload_n K dX0_find_64 rfl ?_
          refine x_cmpN_ge K 77 dX0_find_65 (by decide) (by omega) (by omega) (fun _ => ?_) (fun q => absurd q (by omega))
          refine x_iload K dX0_find_77 rfl ?_
          refine x_iconst K (nI 1) dX0_find_79 (by decide) ?_
          refine x_isub K dX0_find_80 ?_
          refine x_istore K [.ref (ad 0), .int (nI x), .int (nI i), .int (nI j), .int (nI lo), .int (((nI md)) - ((nI 1))), .int (nI rd), .int (nI md)] dX0_find_81 (by decide) (Nat.le_of_ble_eq_true rfl) rfl ?_
          refine x_iinc1 K [.ref (ad 0), .int (nI x), .int (nI i), .int (nI j), .int (nI lo), .int (((nI md)) - ((nI 1))), .int (nI (rd + 1)), .int (nI md)] dX0_find_83 rfl (by decide) (Nat.le_of_ble_eq_true rfl) rfl ?_
          refine x_goto K 21 dX0_find_86 (by decide) ?_
          refine x_drop [.ref (ad 0), .int (nI x), .int (nI i), .int (nI j), .int (nI lo), .int (((nI md)) - ((nI 1))), .int (nI (rd + 1))] 7 rfl ?_
          refine ih (rd + 1) lo md (by omega) (by omega) hlo (by omega) (fun q => ?_) hl3
          have h5 := hin q
          have h6 := ct_lt (f := f) (show 6 * i + j < 6 * i + j1 by omega) q
          omega
  have l4 : ct f (6 * i + 6) ≤ ct f (6 * i) + 6 := ct_add6 f (6 * i)
  refine key 3 0 _ _ (by omega) (by omega) (Nat.le_refl _) (Nat.le_refl _) (fun q => ?_) (by omega)
  have h5 : ct f (6 * i) ≤ ct f (6 * i + j) := ct_mono f (by omega)
  have h6 := ct_lt (f := f) (show 6 * i + j < 6 * i + 6 by omega) q
  omega
theorem caX_find0 {p : Program} {l : Launch} {e : Env} {R : Room} {s : State} {m : MethodId} {args : Array Value} {below : List Frame} {meth : Method} {c : Code} {cells slots : Nat} {Q : State → Prop} {cc : ByteArray} {pc nL dR : Nat} {st : List Value} {lv : List Value} {A : Nat → Prop} {D : va_G} {ad : Nat → Nat} {bd : Nat → ClassId} {S C V NS NC NV : Nat → Int32} {mk : Nat} {Wk : Nat → Int32} (K : XC p R s m args c cells slots D A (tyX bd) nL cc RX0 dR) (hdR : 2 ≤ dR) {f : Nat → Int32} {x i j : Nat} (hx : x < 5) (hi : i < 6) (hj : j < 6) (hf : RepS S C V x f) (h0 : f (6 * i + j) = 0) (hroom : (st.map fun v => v.category).sum ≤ 8) (hdg : decode cc pc = .ok (.invokevirtual 81, 3)) (kk : XW p l e R s m args below meth c cells slots Q D A nL (wX ad bd S C V NS NC NV mk Wk) (pc + 3) lv (.int (-1) :: st)) : XW p l e R s m args below meth c cells slots Q D A nL (wX ad bd S C V NS NC NV mk Wk) pc lv (.int (nI j) :: .int (nI i) :: .int (nI x) :: .ref (ad 0) :: st) :=
  x_callI (n := 3) K (ctX_find l hx hi hj hf) q129 q131 qs11 q18 q132 (by decide +kernel) hdR (by decide) rfl rfl rfl rfl hroom hdg (fun r _ h => by rw [h, fnd, if_pos h0]; exact kk)
theorem caX_find1 {p : Program} {l : Launch} {e : Env} {R : Room} {s : State} {m : MethodId} {args : Array Value} {below : List Frame} {meth : Method} {c : Code} {cells slots : Nat} {Q : State → Prop} {cc : ByteArray} {pc nL dR : Nat} {st : List Value} {lv : List Value} {A : Nat → Prop} {D : va_G} {ad : Nat → Nat} {bd : Nat → ClassId} {S C V NS NC NV : Nat → Int32} {mk : Nat} {Wk : Nat → Int32} (K : XC p R s m args c cells slots D A (tyX bd) nL cc RX0 dR) (hdR : 2 ≤ dR) {f : Nat → Int32} {x i j : Nat} (hx : x < 5) (hi : i < 6) (hj : j < 6) (hf : RepS S C V x f) (h0 : f (6 * i + j) ≠ 0) (hroom : (st.map fun v => v.category).sum ≤ 8) (hdg : decode cc pc = .ok (.invokevirtual 81, 3)) (kk : XW p l e R s m args below meth c cells slots Q D A nL (wX ad bd S C V NS NC NV mk Wk) (pc + 3) lv (.int (nI (36 * x + ct f (6 * i + j))) :: st)) : XW p l e R s m args below meth c cells slots Q D A nL (wX ad bd S C V NS NC NV mk Wk) pc lv (.int (nI j) :: .int (nI i) :: .int (nI x) :: .ref (ad 0) :: st) :=
  x_callI (n := 3) K (ctX_find l hx hi hj hf) q129 q131 qs11 q18 q132 (by decide +kernel) hdR (by decide) rfl rfl rfl rfl hroom hdg (fun r _ h => by rw [h, fnd, if_neg h0]; exact kk)
end
section
set_option maxRecDepth 100000
/-! SparseKernels: the calls that make a matrix -/
abbrev U8 : Type := (Nat → Int32) × (Nat → Int32) × (Nat → Int32) × (Nat → Int32) × (Nat → Int32) × (Nat → Int32) × Nat × (Nat → Int32)
abbrev wU (ad : Nat → Nat) (bd : Nat → ClassId) (u : U8) : va_W := wX ad bd u.1 u.2.1 u.2.2.1 u.2.2.2.1 u.2.2.2.2.1 u.2.2.2.2.2.1 u.2.2.2.2.2.2.1 u.2.2.2.2.2.2.2
theorem sp_ok {ok : Bool} {a b M S C V : Nat → Int32} {tn : Nat} (hok : ok = true) (hbe : b = M) (ht : tn < 5) (h : Rep S C V (putm a tn b)) : nI (ct b 36) = spR ok M ∧ Rep S C V (spS ok a (nI tn) M) := by
  subst hbe
  subst hok
  refine ⟨rfl, ?_⟩
  unfold spS
  rw [if_pos rfl, nI_clamp (by omega)]
  exact h
theorem sp_no {ok : Bool} {a M S C V : Nat → Int32} {t : Int32} (hok : ok = false) (h : Rep S C V a) : (-1 : Int32) = spR ok M ∧ Rep S C V (spS ok a t M) := by
  subst hok
  exact ⟨rfl, h⟩
set_option maxHeartbeats 8000000 in
theorem ctX_add (l : Launch) {D : va_G} {ad : Nat → Nat} {bd : Nat → ClassId} {S C V NS NC NV : Nat → Int32} {mk : Nat} {Wk : Nat → Int32} {a : Nat → Int32} {t x y : Int32} (hR : Rep S C V a) : CtI l yX0_add cX0_add 5 (some .int) 2 D (tyX bd) [.ref (ad 0), .int t, .int x, .int y] (wX ad bd S C V NS NC NV mk Wk) (fun r (u : U8) => r = spR (okb 5 t && okb 5 x && okb 5 y) (mAdd a x y) ∧ Rep u.1 u.2.1 u.2.2.1 (spS (okb 5 t && okb 5 x && okb 5 y) a t (mAdd a x y))) (fun u => wU ad bd u) := by
  refine x_enterI (own := RX0) (by decide) rfl (Nat.le_of_ble_eq_true rfl) (by simp [Value.category]) ?_
  intro p e s m args below meth c A K hr hlocks
  obtain ⟨Q0, hQ0⟩ : ∃ Q0 : State → Prop, Q0 = XQi below args s D (tyX bd) A (fun r (u : U8) => r = spR (okb 5 t && okb 5 x && okb 5 y) (mAdd a x y) ∧ Rep u.1 u.2.1 u.2.2.1 (spS (okb 5 t && okb 5 x && okb 5 y) a t (mAdd a x y))) (fun u => wU ad bd u) := ⟨_, rfl⟩
  rw [← hQ0]
  refine x_iload_n K dX0_add_0 rfl ?_
  refine caX_isSlot K (by decide) (Nat.le_of_ble_eq_true rfl) dX0_add_1 ?_
  refine x_if_eqB K 21 dX0_add_4 (by decide) (fun h1 => ?_) (fun h1 => ?_)
  · skip
    refine x_iconst K (-1) dX0_add_21 (by decide) ?_
    rw [hQ0]
    exact x_iret K hr hlocks dX0_add_22 (S, C, V, NS, NC, NV, mk, Wk) (rfl) (sp_no (by simp [*]) hR)
  · skip
    refine x_iload_n K dX0_add_7 rfl ?_
    refine caX_isSlot K (by decide) (Nat.le_of_ble_eq_true rfl) dX0_add_8 ?_
    refine x_if_eqB K 21 dX0_add_11 (by decide) (fun h2 => ?_) (fun h2 => ?_)
    · skip
      refine x_iconst K (-1) dX0_add_21 (by decide) ?_
      rw [hQ0]
      exact x_iret K hr hlocks dX0_add_22 (S, C, V, NS, NC, NV, mk, Wk) (rfl) (sp_no (by simp [*]) hR)
    · skip
      refine x_iload_n K dX0_add_14 rfl ?_
      refine caX_isSlot K (by decide) (Nat.le_of_ble_eq_true rfl) dX0_add_15 ?_
      refine x_if_neB K 23 dX0_add_18 (by decide) (fun h3 => ?_) (fun h3 => ?_)
      · skip
        obtain ⟨tn, ht, rfl⟩ := okb_of h1
        obtain ⟨xn, hx, rfl⟩ := okb_of h2
        obtain ⟨yn, hy, rfl⟩ := okb_of h3
        have hok : (okb 5 (nI tn) && okb 5 (nI xn) && okb 5 (nI yn)) = true := by rw [h1, h2, h3]; rfl
        obtain ⟨b, hbe⟩ : ∃ b, b = mAdd a (nI xn) (nI yn) := ⟨_, rfl⟩
        have hb : ∀ c, c < 36 → b c = sl a xn c + sl a yn c := fun c _ => by rw [hbe]; unfold mAdd; rw [cN_nI (by omega), cN_nI (by omega)]
        refine x_aload_n K dX0_add_23 rfl ?_
        refine caX_begin K (by decide) (Nat.le_of_ble_eq_true rfl) dX0_add_24 ?_
        refine x_iconst K (nI 0) dX0_add_27 (by decide) ?_
        refine x_istore K [.ref (ad 0), .int (nI tn), .int (nI xn), .int (nI yn), .int (nI 0)] dX0_add_28 (by decide) (Nat.le_of_ble_eq_true rfl) rfl ?_
        have key : ∀ (n : Nat) (i : Nat) (NS NC NV : Nat → Int32) (mk : Nat) (Wk : Nat → Int32), i + n = 6 → Mk b (6 * i) NC NV mk → NSok b i NS → XW p l e (rD 2) s m args below meth c 0 0 Q0 D A 5 (wX ad bd S C V NS NC NV mk Wk) 30 [.ref (ad 0), .int (nI tn), .int (nI xn), .int (nI yn), .int (nI i)] [] := by
          intro n
          induction n with
          | zero =>
            intro i NS NC NV mk Wk hi hM hN
            obtain rfl : i = 6 := by omega
            refine x_iload K dX0_add_30 rfl ?_
            refine x_bipush K (nI 6) dX0_add_32 (by decide) ?_
            refine x_cmpN_ge K 57 dX0_add_34 (by decide) (by omega) (by omega) (fun _ => ?_) (fun q => absurd q (by omega))
            refine x_aload_n K dX0_add_57 rfl ?_
            refine x_iload_n K dX0_add_58 rfl ?_
            refine caX_store K (by decide) ht hM hN hR (Nat.le_of_ble_eq_true rfl) dX0_add_59 (fun S C V hR => ?_)
            rw [hQ0]
            exact x_iret K hr hlocks dX0_add_62 (S, C, V, NS, NC, NV, mk, Wk) (rfl) (sp_ok hok hbe ht hR)
          | succ n ih =>
            intro i NS NC NV mk Wk hi hM hN
            refine x_iload K dX0_add_30 rfl ?_
            refine x_bipush K (nI 6) dX0_add_32 (by decide) ?_
            refine x_cmpN_ge K 57 dX0_add_34 (by decide) (by omega) (by omega) (fun q => absurd q (by omega)) (fun _ => ?_)
            refine x_aload_n K dX0_add_37 rfl ?_
            refine x_iload_n K dX0_add_38 rfl ?_
            refine x_iload_n K dX0_add_39 rfl ?_
            refine x_iload K dX0_add_40 rfl ?_
            refine caX_mergeRow K (by decide) hx hy (by omega) (hR _ hx) (hR _ hy) hb hM (Nat.le_of_ble_eq_true rfl) dX0_add_42 (fun NC NV mk hM => ?_)
            refine x_aload_n K dX0_add_45 rfl ?_
            refine x_iload K dX0_add_46 rfl ?_
            refine caX_endRow K (by decide) hN (by omega) hM.1 (Nat.le_of_ble_eq_true rfl) dX0_add_48 (fun NS hN => ?_)
            refine x_iinc1 K [.ref (ad 0), .int (nI tn), .int (nI xn), .int (nI yn), .int (nI (i + 1))] dX0_add_51 rfl (by decide) (Nat.le_of_ble_eq_true rfl) rfl ?_
            refine x_goto K 30 dX0_add_54 (by decide) ?_
            exact ih (i + 1) NS NC NV mk Wk (by omega) hM hN
        exact key 6 0 _ NC NV 0 Wk (by omega) mk_0 ns_0
      · skip
        refine x_iconst K (-1) dX0_add_21 (by decide) ?_
        rw [hQ0]
        exact x_iret K hr hlocks dX0_add_22 (S, C, V, NS, NC, NV, mk, Wk) (rfl) (sp_no (by simp [*]) hR)
set_option maxHeartbeats 8000000 in
theorem ctX_entrywise (l : Launch) {D : va_G} {ad : Nat → Nat} {bd : Nat → ClassId} {S C V NS NC NV : Nat → Int32} {mk : Nat} {Wk : Nat → Int32} {a : Nat → Int32} {t x y : Int32} (hR : Rep S C V a) : CtI l yX0_entrywise cX0_entrywise 5 (some .int) 2 D (tyX bd) [.ref (ad 0), .int t, .int x, .int y] (wX ad bd S C V NS NC NV mk Wk) (fun r (u : U8) => r = spR (okb 5 t && okb 5 x && okb 5 y) (mMul a x y) ∧ Rep u.1 u.2.1 u.2.2.1 (spS (okb 5 t && okb 5 x && okb 5 y) a t (mMul a x y))) (fun u => wU ad bd u) := by
  refine x_enterI (own := RX0) (by decide) rfl (Nat.le_of_ble_eq_true rfl) (by simp [Value.category]) ?_
  intro p e s m args below meth c A K hr hlocks
  obtain ⟨Q0, hQ0⟩ : ∃ Q0 : State → Prop, Q0 = XQi below args s D (tyX bd) A (fun r (u : U8) => r = spR (okb 5 t && okb 5 x && okb 5 y) (mMul a x y) ∧ Rep u.1 u.2.1 u.2.2.1 (spS (okb 5 t && okb 5 x && okb 5 y) a t (mMul a x y))) (fun u => wU ad bd u) := ⟨_, rfl⟩
  rw [← hQ0]
  refine x_iload_n K dX0_entrywise_0 rfl ?_
  refine caX_isSlot K (by decide) (Nat.le_of_ble_eq_true rfl) dX0_entrywise_1 ?_
  refine x_if_eqB K 21 dX0_entrywise_4 (by decide) (fun h1 => ?_) (fun h1 => ?_)
  · skip
    refine x_iconst K (-1) dX0_entrywise_21 (by decide) ?_
    rw [hQ0]
    exact x_iret K hr hlocks dX0_entrywise_22 (S, C, V, NS, NC, NV, mk, Wk) (rfl) (sp_no (by simp [*]) hR)
  · skip
    refine x_iload_n K dX0_entrywise_7 rfl ?_
    refine caX_isSlot K (by decide) (Nat.le_of_ble_eq_true rfl) dX0_entrywise_8 ?_
    refine x_if_eqB K 21 dX0_entrywise_11 (by decide) (fun h2 => ?_) (fun h2 => ?_)
    · skip
      refine x_iconst K (-1) dX0_entrywise_21 (by decide) ?_
      rw [hQ0]
      exact x_iret K hr hlocks dX0_entrywise_22 (S, C, V, NS, NC, NV, mk, Wk) (rfl) (sp_no (by simp [*]) hR)
    · skip
      refine x_iload_n K dX0_entrywise_14 rfl ?_
      refine caX_isSlot K (by decide) (Nat.le_of_ble_eq_true rfl) dX0_entrywise_15 ?_
      refine x_if_neB K 23 dX0_entrywise_18 (by decide) (fun h3 => ?_) (fun h3 => ?_)
      · skip
        obtain ⟨tn, ht, rfl⟩ := okb_of h1
        obtain ⟨xn, hx, rfl⟩ := okb_of h2
        obtain ⟨yn, hy, rfl⟩ := okb_of h3
        have hok : (okb 5 (nI tn) && okb 5 (nI xn) && okb 5 (nI yn)) = true := by rw [h1, h2, h3]; rfl
        obtain ⟨b, hbe⟩ : ∃ b, b = mMul a (nI xn) (nI yn) := ⟨_, rfl⟩
        have hb : ∀ c, c < 36 → b c = sl a xn c * sl a yn c := fun c _ => by rw [hbe]; unfold mMul; rw [cN_nI (by omega), cN_nI (by omega)]
        refine x_aload_n K dX0_entrywise_23 rfl ?_
        refine caX_begin K (by decide) (Nat.le_of_ble_eq_true rfl) dX0_entrywise_24 ?_
        refine x_iconst K (nI 0) dX0_entrywise_27 (by decide) ?_
        refine x_istore K [.ref (ad 0), .int (nI tn), .int (nI xn), .int (nI yn), .int (nI 0)] dX0_entrywise_28 (by decide) (Nat.le_of_ble_eq_true rfl) rfl ?_
        have key : ∀ (n : Nat) (i : Nat) (NS NC NV : Nat → Int32) (mk : Nat) (Wk : Nat → Int32), i + n = 6 → Mk b (6 * i) NC NV mk → NSok b i NS → XW p l e (rD 2) s m args below meth c 0 0 Q0 D A 5 (wX ad bd S C V NS NC NV mk Wk) 30 [.ref (ad 0), .int (nI tn), .int (nI xn), .int (nI yn), .int (nI i)] [] := by
          intro n
          induction n with
          | zero =>
            intro i NS NC NV mk Wk hi hM hN
            obtain rfl : i = 6 := by omega
            refine x_iload K dX0_entrywise_30 rfl ?_
            refine x_bipush K (nI 6) dX0_entrywise_32 (by decide) ?_
            refine x_cmpN_ge K 57 dX0_entrywise_34 (by decide) (by omega) (by omega) (fun _ => ?_) (fun q => absurd q (by omega))
            refine x_aload_n K dX0_entrywise_57 rfl ?_
            refine x_iload_n K dX0_entrywise_58 rfl ?_
            refine caX_store K (by decide) ht hM hN hR (Nat.le_of_ble_eq_true rfl) dX0_entrywise_59 (fun S C V hR => ?_)
            rw [hQ0]
            exact x_iret K hr hlocks dX0_entrywise_62 (S, C, V, NS, NC, NV, mk, Wk) (rfl) (sp_ok hok hbe ht hR)
          | succ n ih =>
            intro i NS NC NV mk Wk hi hM hN
            refine x_iload K dX0_entrywise_30 rfl ?_
            refine x_bipush K (nI 6) dX0_entrywise_32 (by decide) ?_
            refine x_cmpN_ge K 57 dX0_entrywise_34 (by decide) (by omega) (by omega) (fun q => absurd q (by omega)) (fun _ => ?_)
            refine x_aload_n K dX0_entrywise_37 rfl ?_
            refine x_iload_n K dX0_entrywise_38 rfl ?_
            refine x_iload_n K dX0_entrywise_39 rfl ?_
            refine x_iload K dX0_entrywise_40 rfl ?_
            refine caX_crossRow K (by decide) hx hy (by omega) (hR _ hx) (hR _ hy) hb hM (Nat.le_of_ble_eq_true rfl) dX0_entrywise_42 (fun NC NV mk hM => ?_)
            refine x_aload_n K dX0_entrywise_45 rfl ?_
            refine x_iload K dX0_entrywise_46 rfl ?_
            refine caX_endRow K (by decide) hN (by omega) hM.1 (Nat.le_of_ble_eq_true rfl) dX0_entrywise_48 (fun NS hN => ?_)
            refine x_iinc1 K [.ref (ad 0), .int (nI tn), .int (nI xn), .int (nI yn), .int (nI (i + 1))] dX0_entrywise_51 rfl (by decide) (Nat.le_of_ble_eq_true rfl) rfl ?_
            refine x_goto K 30 dX0_entrywise_54 (by decide) ?_
            exact ih (i + 1) NS NC NV mk Wk (by omega) hM hN
        exact key 6 0 _ NC NV 0 Wk (by omega) mk_0 ns_0
      · skip
        refine x_iconst K (-1) dX0_entrywise_21 (by decide) ?_
        rw [hQ0]
        exact x_iret K hr hlocks dX0_entrywise_22 (S, C, V, NS, NC, NV, mk, Wk) (rfl) (sp_no (by simp [*]) hR)
set_option maxHeartbeats 8000000 in
theorem ctX_product (l : Launch) {D : va_G} {ad : Nat → Nat} {bd : Nat → ClassId} {S C V NS NC NV : Nat → Int32} {mk : Nat} {Wk : Nat → Int32} {a : Nat → Int32} {t x y : Int32} (hR : Rep S C V a) : CtI l yX0_product cX0_product 5 (some .int) 2 D (tyX bd) [.ref (ad 0), .int t, .int x, .int y] (wX ad bd S C V NS NC NV mk Wk) (fun r (u : U8) => r = spR (okb 5 t && okb 5 x && okb 5 y) (mPro a x y) ∧ Rep u.1 u.2.1 u.2.2.1 (spS (okb 5 t && okb 5 x && okb 5 y) a t (mPro a x y))) (fun u => wU ad bd u) := by
  refine x_enterI (own := RX0) (by decide) rfl (Nat.le_of_ble_eq_true rfl) (by simp [Value.category]) ?_
  intro p e s m args below meth c A K hr hlocks
  obtain ⟨Q0, hQ0⟩ : ∃ Q0 : State → Prop, Q0 = XQi below args s D (tyX bd) A (fun r (u : U8) => r = spR (okb 5 t && okb 5 x && okb 5 y) (mPro a x y) ∧ Rep u.1 u.2.1 u.2.2.1 (spS (okb 5 t && okb 5 x && okb 5 y) a t (mPro a x y))) (fun u => wU ad bd u) := ⟨_, rfl⟩
  rw [← hQ0]
  refine x_iload_n K dX0_product_0 rfl ?_
  refine caX_isSlot K (by decide) (Nat.le_of_ble_eq_true rfl) dX0_product_1 ?_
  refine x_if_eqB K 21 dX0_product_4 (by decide) (fun h1 => ?_) (fun h1 => ?_)
  · skip
    refine x_iconst K (-1) dX0_product_21 (by decide) ?_
    rw [hQ0]
    exact x_iret K hr hlocks dX0_product_22 (S, C, V, NS, NC, NV, mk, Wk) (rfl) (sp_no (by simp [*]) hR)
  · skip
    refine x_iload_n K dX0_product_7 rfl ?_
    refine caX_isSlot K (by decide) (Nat.le_of_ble_eq_true rfl) dX0_product_8 ?_
    refine x_if_eqB K 21 dX0_product_11 (by decide) (fun h2 => ?_) (fun h2 => ?_)
    · skip
      refine x_iconst K (-1) dX0_product_21 (by decide) ?_
      rw [hQ0]
      exact x_iret K hr hlocks dX0_product_22 (S, C, V, NS, NC, NV, mk, Wk) (rfl) (sp_no (by simp [*]) hR)
    · skip
      refine x_iload_n K dX0_product_14 rfl ?_
      refine caX_isSlot K (by decide) (Nat.le_of_ble_eq_true rfl) dX0_product_15 ?_
      refine x_if_neB K 23 dX0_product_18 (by decide) (fun h3 => ?_) (fun h3 => ?_)
      · skip
        obtain ⟨tn, ht, rfl⟩ := okb_of h1
        obtain ⟨xn, hx, rfl⟩ := okb_of h2
        obtain ⟨yn, hy, rfl⟩ := okb_of h3
        have hok : (okb 5 (nI tn) && okb 5 (nI xn) && okb 5 (nI yn)) = true := by rw [h1, h2, h3]; rfl
        obtain ⟨b, hbe⟩ : ∃ b, b = mPro a (nI xn) (nI yn) := ⟨_, rfl⟩
        have hb : ∀ c, c < 36 → b c = en (sl a xn) (sl a yn) (c / 6) (c % 6) := fun c _ => by rw [hbe]; unfold mPro; rw [cN_nI (by omega), cN_nI (by omega)]
        refine x_aload_n K dX0_product_23 rfl ?_
        refine caX_begin K (by decide) (Nat.le_of_ble_eq_true rfl) dX0_product_24 ?_
        refine x_iconst K (nI 0) dX0_product_27 (by decide) ?_
        refine x_istore K [.ref (ad 0), .int (nI tn), .int (nI xn), .int (nI yn), .int (nI 0)] dX0_product_28 (by decide) (Nat.le_of_ble_eq_true rfl) rfl ?_
        have key : ∀ (n : Nat) (i : Nat) (NS NC NV : Nat → Int32) (mk : Nat) (Wk : Nat → Int32), i + n = 6 → Mk b (6 * i) NC NV mk → NSok b i NS → XW p l e (rD 2) s m args below meth c 0 0 Q0 D A 5 (wX ad bd S C V NS NC NV mk Wk) 30 [.ref (ad 0), .int (nI tn), .int (nI xn), .int (nI yn), .int (nI i)] [] := by
          intro n
          induction n with
          | zero =>
            intro i NS NC NV mk Wk hi hM hN
            obtain rfl : i = 6 := by omega
            refine x_iload K dX0_product_30 rfl ?_
            refine x_bipush K (nI 6) dX0_product_32 (by decide) ?_
            refine x_cmpN_ge K 61 dX0_product_34 (by decide) (by omega) (by omega) (fun _ => ?_) (fun q => absurd q (by omega))
            refine x_aload_n K dX0_product_61 rfl ?_
            refine x_iload_n K dX0_product_62 rfl ?_
            refine caX_store K (by decide) ht hM hN hR (Nat.le_of_ble_eq_true rfl) dX0_product_63 (fun S C V hR => ?_)
            rw [hQ0]
            exact x_iret K hr hlocks dX0_product_66 (S, C, V, NS, NC, NV, mk, Wk) (rfl) (sp_ok hok hbe ht hR)
          | succ n ih =>
            intro i NS NC NV mk Wk hi hM hN
            refine x_iload K dX0_product_30 rfl ?_
            refine x_bipush K (nI 6) dX0_product_32 (by decide) ?_
            refine x_cmpN_ge K 61 dX0_product_34 (by decide) (by omega) (by omega) (fun q => absurd q (by omega)) (fun _ => ?_)
            refine x_aload_n K dX0_product_37 rfl ?_
            refine x_iload_n K dX0_product_38 rfl ?_
            refine x_iload_n K dX0_product_39 rfl ?_
            refine x_iload K dX0_product_40 rfl ?_
            refine caX_productRow K (by decide) hx hy (by omega) (hR _ hx) (hR _ hy) (Nat.le_of_ble_eq_true rfl) dX0_product_42 (fun Wk hW => ?_)
            refine x_aload_n K dX0_product_45 rfl ?_
            refine caX_emitWork K (by decide) (g := i) (by omega) hM (fun j hj => by rw [hW j hj, hb _ (by omega), show (6 * i + j) / 6 = i by omega, show (6 * i + j) % 6 = j by omega]) (Nat.le_of_ble_eq_true rfl) dX0_product_46 (fun NC NV mk hM => ?_)
            refine x_aload_n K dX0_product_49 rfl ?_
            refine x_iload K dX0_product_50 rfl ?_
            refine caX_endRow K (by decide) hN (by omega) hM.1 (Nat.le_of_ble_eq_true rfl) dX0_product_52 (fun NS hN => ?_)
            refine x_iinc1 K [.ref (ad 0), .int (nI tn), .int (nI xn), .int (nI yn), .int (nI (i + 1))] dX0_product_55 rfl (by decide) (Nat.le_of_ble_eq_true rfl) rfl ?_
            refine x_goto K 30 dX0_product_58 (by decide) ?_
            exact ih (i + 1) NS NC NV mk Wk (by omega) hM hN
        exact key 6 0 _ NC NV 0 Wk (by omega) mk_0 ns_0
      · skip
        refine x_iconst K (-1) dX0_product_21 (by decide) ?_
        rw [hQ0]
        exact x_iret K hr hlocks dX0_product_22 (S, C, V, NS, NC, NV, mk, Wk) (rfl) (sp_no (by simp [*]) hR)
set_option maxHeartbeats 8000000 in
theorem ctX_scale (l : Launch) {D : va_G} {ad : Nat → Nat} {bd : Nat → ClassId} {S C V NS NC NV : Nat → Int32} {mk : Nat} {Wk : Nat → Int32} {a : Nat → Int32} {t x k : Int32} (hR : Rep S C V a) : CtI l yX0_scale cX0_scale 6 (some .int) 2 D (tyX bd) [.ref (ad 0), .int t, .int x, .int k] (wX ad bd S C V NS NC NV mk Wk) (fun r (u : U8) => r = spR (okb 5 t && okb 5 x) (mSca a x k) ∧ Rep u.1 u.2.1 u.2.2.1 (spS (okb 5 t && okb 5 x) a t (mSca a x k))) (fun u => wU ad bd u) := by
  refine x_enterI (own := RX0) (by decide) rfl (Nat.le_of_ble_eq_true rfl) (by simp [Value.category]) ?_
  intro p e s m args below meth c A K hr hlocks
  obtain ⟨Q0, hQ0⟩ : ∃ Q0 : State → Prop, Q0 = XQi below args s D (tyX bd) A (fun r (u : U8) => r = spR (okb 5 t && okb 5 x) (mSca a x k) ∧ Rep u.1 u.2.1 u.2.2.1 (spS (okb 5 t && okb 5 x) a t (mSca a x k))) (fun u => wU ad bd u) := ⟨_, rfl⟩
  rw [← hQ0]
  refine x_iload_n K dX0_scale_0 rfl ?_
  refine caX_isSlot K (by decide) (Nat.le_of_ble_eq_true rfl) dX0_scale_1 ?_
  refine x_if_eqB K 14 dX0_scale_4 (by decide) (fun h1 => ?_) (fun h1 => ?_)
  · skip
    refine x_iconst K (-1) dX0_scale_14 (by decide) ?_
    rw [hQ0]
    exact x_iret K hr hlocks dX0_scale_15 (S, C, V, NS, NC, NV, mk, Wk) (rfl) (sp_no (by simp [*]) hR)
  · skip
    refine x_iload_n K dX0_scale_7 rfl ?_
    refine caX_isSlot K (by decide) (Nat.le_of_ble_eq_true rfl) dX0_scale_8 ?_
    refine x_if_neB K 16 dX0_scale_11 (by decide) (fun h2 => ?_) (fun h2 => ?_)
    · skip
      obtain ⟨tn, ht, rfl⟩ := okb_of h1
      obtain ⟨xn, hx, rfl⟩ := okb_of h2
      have hok : (okb 5 (nI tn) && okb 5 (nI xn)) = true := by rw [h1, h2]; rfl
      obtain ⟨b, hbe⟩ : ∃ b, b = mSca a (nI xn) k := ⟨_, rfl⟩
      have hb : ∀ c, c < 36 → b c = sl a xn c * k := fun c _ => by rw [hbe]; unfold mSca; rw [cN_nI (by omega)]
      obtain ⟨f, hfe⟩ : ∃ f, f = sl a xn := ⟨_, rfl⟩
      have hf := hR _ hx
      rw [← hfe] at hb hf
      refine x_aload_n K dX0_scale_16 rfl ?_
      refine caX_begin K (by decide) (Nat.le_of_ble_eq_true rfl) dX0_scale_17 ?_
      refine x_iconst K (nI 0) dX0_scale_20 (by decide) ?_
      refine x_istore K [.ref (ad 0), .int (nI tn), .int (nI xn), .int k, .int (nI 0)] dX0_scale_21 (by decide) (Nat.le_of_ble_eq_true rfl) rfl ?_
      have key : ∀ (n : Nat) (i : Nat) (NS NC NV : Nat → Int32) (mk : Nat) (Wk : Nat → Int32), i + n = 6 → Mk b (6 * i) NC NV mk → NSok b i NS → XW p l e (rD 2) s m args below meth c 0 0 Q0 D A 6 (wX ad bd S C V NS NC NV mk Wk) 23 [.ref (ad 0), .int (nI tn), .int (nI xn), .int k, .int (nI i)] [] := by
        intro n
        induction n with
        | zero =>
          intro i NS NC NV mk Wk hi hM hN
          obtain rfl : i = 6 := by omega
          refine x_iload K dX0_scale_23 rfl ?_
          refine x_bipush K (nI 6) dX0_scale_25 (by decide) ?_
          refine x_cmpN_ge K 89 dX0_scale_27 (by decide) (by omega) (by omega) (fun _ => ?_) (fun q => absurd q (by omega))
          refine x_aload_n K dX0_scale_89 rfl ?_
          refine x_iload_n K dX0_scale_90 rfl ?_
          refine caX_store K (by decide) ht hM hN hR (Nat.le_of_ble_eq_true rfl) dX0_scale_91 (fun S C V hR => ?_)
          rw [hQ0]
          exact x_iret K hr hlocks dX0_scale_94 (S, C, V, NS, NC, NV, mk, Wk) (rfl) (sp_ok hok hbe ht hR)
        | succ n ih =>
          intro i NS NC NV mk Wk hi hM hN
          have hi6 : i < 6 := by omega
          refine x_iload K dX0_scale_23 rfl ?_
          refine x_bipush K (nI 6) dX0_scale_25 (by decide) ?_
          refine x_cmpN_ge K 89 dX0_scale_27 (by decide) (by omega) (by omega) (fun q => absurd q (by omega)) (fun _ => ?_)
          refine x_aload_n K dX0_scale_30 rfl ?_
          refine x_iload_n K dX0_scale_31 rfl ?_
          refine x_iload K dX0_scale_32 rfl ?_
          refine caX_from K (by decide) hf hx hi6 (Nat.le_of_ble_eq_true rfl) dX0_scale_34 ?_
          refine x_istore K [.ref (ad 0), .int (nI tn), .int (nI xn), .int k, .int (nI i), .int (nI (36 * xn + ct f (6 * i)))] dX0_scale_37 (by decide) (Nat.le_of_ble_eq_true rfl) rfl ?_
          have key2 : ∀ (n2 : Nat) (j : Nat) (NC NV : Nat → Int32) (mk : Nat), j ≤ 6 → 6 < j + n2 → Mk b (6 * i + j) NC NV mk → XW p l e (rD 2) s m args below meth c 0 0 Q0 D A 6 (wX ad bd S C V NS NC NV mk Wk) 39 [.ref (ad 0), .int (nI tn), .int (nI xn), .int k, .int (nI i), .int (nI (36 * xn + ct f (6 * i + j)))] [] := by
            intro n2
            induction n2 with
            | zero =>
              intro j NC NV mk hj hn hM
              exact absurd hn (by omega)
            | succ n2 ih2 =>
              intro j NC NV mk hj hn hM
              have l1 := ct_row_le (f := f) hi6 hj
              have l3 := ct_row_le (f := f) hi6 (Nat.le_refl 6)
              rcases it_row hf hi6 hj with ⟨e1, zf⟩ | ⟨j1, a1, a2, a3, a4, a5, a6, a7, a8⟩
              · skip
                have hM : Mk b (6 * i + 6) NC NV mk := mk_skip hM (by omega) (fun c h1 h2 => by rw [hb c (by omega), show c = 6 * i + (c - 6 * i) by omega, zf _ (by omega) (by omega), Int32.zero_mul])
                refine x_iload K dX0_scale_39 rfl ?_
                refine x_aload_n K dX0_scale_41 rfl ?_
                refine x_iload_n K dX0_scale_42 rfl ?_
                refine x_iload K dX0_scale_43 rfl ?_
                refine caX_upTo K (by decide) hf hx hi6 (Nat.le_of_ble_eq_true rfl) dX0_scale_45 ?_
                refine x_cmpN_ge K 77 dX0_scale_48 (by decide) (by omega) (by omega) (fun _ => ?_) (fun q => absurd q (by omega))
                refine x_aload_n K dX0_scale_77 rfl ?_
                refine x_iload K dX0_scale_78 rfl ?_
                refine caX_endRow K (by decide) hN (by omega) hM.1 (Nat.le_of_ble_eq_true rfl) dX0_scale_80 (fun NS hN => ?_)
                refine x_iinc1 K [.ref (ad 0), .int (nI tn), .int (nI xn), .int k, .int (nI (i + 1)), .int (nI (36 * xn + ct f (6 * i + j)))] dX0_scale_83 rfl (by decide) (Nat.le_of_ble_eq_true rfl) rfl ?_
                refine x_goto K 23 dX0_scale_86 (by decide) ?_
                refine x_drop [.ref (ad 0), .int (nI tn), .int (nI xn), .int k, .int (nI (i + 1))] 5 rfl ?_
                exact ih (i + 1) NS NC NV mk Wk (by omega) hM hN
              · skip
                refine x_iload K dX0_scale_39 rfl ?_
                refine x_aload_n K dX0_scale_41 rfl ?_
                refine x_iload_n K dX0_scale_42 rfl ?_
                refine x_iload K dX0_scale_43 rfl ?_
                refine caX_upTo K (by decide) hf hx hi6 (Nat.le_of_ble_eq_true rfl) dX0_scale_45 ?_
                refine x_cmpN_ge K 77 dX0_scale_48 (by decide) (by omega) (by omega) (fun q => absurd q (by omega)) (fun _ => ?_)
                refine x_aload_n K dX0_scale_51 rfl ?_
                refine x_aload_n K dX0_scale_52 rfl ?_
                refine gtC K dX0_scale_53 ?_
                refine x_iload K dX0_scale_56 rfl ?_
                refine ldC K (36 * xn + ct f (6 * i + j)) (rfl) (by omega) (x := (nI j1)) (a6) dX0_scale_58 ?_
                refine x_aload_n K dX0_scale_59 rfl ?_
                refine gtV K dX0_scale_60 ?_
                refine x_iload K dX0_scale_63 rfl ?_
                refine ldV K (36 * xn + ct f (6 * i + j)) (rfl) (by omega) (x := (f (6 * i + j1))) (a7) dX0_scale_65 ?_
                refine x_iload_n K dX0_scale_66 rfl ?_
                refine x_imul K dX0_scale_67 ?_
                refine caX_emit K (by decide) (b) (6 * i + j1) (mk_skip hM (by omega) (fun c h1 h2 => by rw [hb c (by omega), show c = 6 * i + (c - 6 * i) by omega, a4 _ (by omega) (by omega), Int32.zero_mul])) (by omega) (by omega) ((hb _ (by omega)).symm) (Nat.le_of_ble_eq_true rfl) dX0_scale_68 (fun NC NV mk hM => ?_)
                refine x_iinc1 K [.ref (ad 0), .int (nI tn), .int (nI xn), .int k, .int (nI i), .int (nI (36 * xn + ct f (6 * i + j) + 1))] dX0_scale_71 rfl (by decide) (Nat.le_of_ble_eq_true rfl) rfl ?_
                refine x_goto K 39 dX0_scale_74 (by decide) ?_
                rw [show 36 * xn + ct f (6 * i + j) + 1 = 36 * xn + ct f (6 * i + (j1 + 1)) by omega]
                exact ih2 (j1 + 1) NC NV mk (by omega) (by omega) hM
          exact key2 7 0 NC NV mk (by omega) (by omega) hM
      exact key 6 0 _ NC NV 0 Wk (by omega) mk_0 ns_0
    · skip
      refine x_iconst K (-1) dX0_scale_14 (by decide) ?_
      rw [hQ0]
      exact x_iret K hr hlocks dX0_scale_15 (S, C, V, NS, NC, NV, mk, Wk) (rfl) (sp_no (by simp [*]) hR)
set_option maxHeartbeats 8000000 in
theorem ctX_transpose (l : Launch) {D : va_G} {ad : Nat → Nat} {bd : Nat → ClassId} {S C V NS NC NV : Nat → Int32} {mk : Nat} {Wk : Nat → Int32} {a : Nat → Int32} {t x : Int32} (hR : Rep S C V a) : CtI l yX0_transpose cX0_transpose 6 (some .int) 2 D (tyX bd) [.ref (ad 0), .int t, .int x] (wX ad bd S C V NS NC NV mk Wk) (fun r (u : U8) => r = spR (okb 5 t && okb 5 x) (mTra a x) ∧ Rep u.1 u.2.1 u.2.2.1 (spS (okb 5 t && okb 5 x) a t (mTra a x))) (fun u => wU ad bd u) := by
  refine x_enterI (own := RX0) (by decide) rfl (Nat.le_of_ble_eq_true rfl) (by simp [Value.category]) ?_
  intro p e s m args below meth c A K hr hlocks
  obtain ⟨Q0, hQ0⟩ : ∃ Q0 : State → Prop, Q0 = XQi below args s D (tyX bd) A (fun r (u : U8) => r = spR (okb 5 t && okb 5 x) (mTra a x) ∧ Rep u.1 u.2.1 u.2.2.1 (spS (okb 5 t && okb 5 x) a t (mTra a x))) (fun u => wU ad bd u) := ⟨_, rfl⟩
  rw [← hQ0]
  refine x_iload_n K dX0_transpose_0 rfl ?_
  refine caX_isSlot K (by decide) (Nat.le_of_ble_eq_true rfl) dX0_transpose_1 ?_
  refine x_if_eqB K 14 dX0_transpose_4 (by decide) (fun h1 => ?_) (fun h1 => ?_)
  · skip
    refine x_iconst K (-1) dX0_transpose_14 (by decide) ?_
    rw [hQ0]
    exact x_iret K hr hlocks dX0_transpose_15 (S, C, V, NS, NC, NV, mk, Wk) (rfl) (sp_no (by simp [*]) hR)
  · skip
    refine x_iload_n K dX0_transpose_7 rfl ?_
    refine caX_isSlot K (by decide) (Nat.le_of_ble_eq_true rfl) dX0_transpose_8 ?_
    refine x_if_neB K 16 dX0_transpose_11 (by decide) (fun h2 => ?_) (fun h2 => ?_)
    · skip
      obtain ⟨tn, ht, rfl⟩ := okb_of h1
      obtain ⟨xn, hx, rfl⟩ := okb_of h2
      have hok : (okb 5 (nI tn) && okb 5 (nI xn)) = true := by rw [h1, h2]; rfl
      obtain ⟨b, hbe⟩ : ∃ b, b = mTra a (nI xn) := ⟨_, rfl⟩
      have hb : ∀ c, c < 36 → b c = sl a xn (6 * (c % 6) + c / 6) := fun c _ => by rw [hbe]; unfold mTra; rw [cN_nI (by omega)]
      obtain ⟨f, hfe⟩ : ∃ f, f = sl a xn := ⟨_, rfl⟩
      have hf := hR _ hx
      rw [← hfe] at hb hf
      refine x_aload_n K dX0_transpose_16 rfl ?_
      refine caX_begin K (by decide) (Nat.le_of_ble_eq_true rfl) dX0_transpose_17 ?_
      refine x_iconst K (nI 0) dX0_transpose_20 (by decide) ?_
      refine x_istore_n K [.ref (ad 0), .int (nI tn), .int (nI xn), .int (nI 0)] dX0_transpose_21 (by decide) (Nat.le_of_ble_eq_true rfl) rfl ?_
      have key : ∀ (n : Nat) (j : Nat) (NS NC NV : Nat → Int32) (mk : Nat) (Wk : Nat → Int32), j + n = 6 → Mk b (6 * j) NC NV mk → NSok b j NS → XW p l e (rD 2) s m args below meth c 0 0 Q0 D A 6 (wX ad bd S C V NS NC NV mk Wk) 22 [.ref (ad 0), .int (nI tn), .int (nI xn), .int (nI j)] [] := by
        intro n
        induction n with
        | zero =>
          intro j NS NC NV mk Wk hi hM hN
          obtain rfl : j = 6 := by omega
          refine x_iload_n K dX0_transpose_22 rfl ?_
          refine x_bipush K (nI 6) dX0_transpose_23 (by decide) ?_
          refine x_cmpN_ge K 83 dX0_transpose_25 (by decide) (by omega) (by omega) (fun _ => ?_) (fun q => absurd q (by omega))
          refine x_aload_n K dX0_transpose_83 rfl ?_
          refine x_iload_n K dX0_transpose_84 rfl ?_
          refine caX_store K (by decide) ht hM hN hR (Nat.le_of_ble_eq_true rfl) dX0_transpose_85 (fun S C V hR => ?_)
          rw [hQ0]
          exact x_iret K hr hlocks dX0_transpose_88 (S, C, V, NS, NC, NV, mk, Wk) (rfl) (sp_ok hok hbe ht hR)
        | succ n ih =>
          intro j NS NC NV mk Wk hi hM hN
          have hj6 : j < 6 := by omega
          refine x_iload_n K dX0_transpose_22 rfl ?_
          refine x_bipush K (nI 6) dX0_transpose_23 (by decide) ?_
          refine x_cmpN_ge K 83 dX0_transpose_25 (by decide) (by omega) (by omega) (fun q => absurd q (by omega)) (fun _ => ?_)
          refine x_iconst K (nI 0) dX0_transpose_28 (by decide) ?_
          refine x_istore K [.ref (ad 0), .int (nI tn), .int (nI xn), .int (nI j), .int (nI 0)] dX0_transpose_29 (by decide) (Nat.le_of_ble_eq_true rfl) rfl ?_
          have key2 : ∀ (n2 : Nat) (i : Nat) (NC NV : Nat → Int32) (mk : Nat), i + n2 = 6 → Mk b (6 * j + i) NC NV mk → XW p l e (rD 2) s m args below meth c 0 0 Q0 D A 6 (wX ad bd S C V NS NC NV mk Wk) 31 [.ref (ad 0), .int (nI tn), .int (nI xn), .int (nI j), .int (nI i)] [] := by
            intro n2
            induction n2 with
            | zero =>
              intro i NC NV mk hi2 hM
              obtain rfl : i = 6 := by omega
              refine x_iload K dX0_transpose_31 rfl ?_
              refine x_bipush K (nI 6) dX0_transpose_33 (by decide) ?_
              refine x_cmpN_ge K 72 dX0_transpose_35 (by decide) (by omega) (by omega) (fun _ => ?_) (fun q => absurd q (by omega))
              refine x_aload_n K dX0_transpose_72 rfl ?_
              refine x_iload_n K dX0_transpose_73 rfl ?_
              refine caX_endRow K (by decide) hN (by omega) hM.1 (Nat.le_of_ble_eq_true rfl) dX0_transpose_74 (fun NS hN => ?_)
              refine x_iinc1 K [.ref (ad 0), .int (nI tn), .int (nI xn), .int (nI (j + 1)), .int (nI 6)] dX0_transpose_77 rfl (by decide) (Nat.le_of_ble_eq_true rfl) rfl ?_
              refine x_goto K 22 dX0_transpose_80 (by decide) ?_
              refine x_drop [.ref (ad 0), .int (nI tn), .int (nI xn), .int (nI (j + 1))] 4 rfl ?_
              exact ih (j + 1) NS NC NV mk Wk (by omega) hM hN
            | succ n2 ih2 =>
              intro i NC NV mk hi2 hM
              have l1 := ct_row_le (f := f) (show i < 6 by omega) (Nat.le_of_lt hj6)
              have hbi : b (6 * j + i) = f (6 * i + j) := by rw [hb _ (by omega), show (6 * j + i) % 6 = i by omega, show (6 * j + i) / 6 = j by omega]
              by_cases h0 : f (6 * i + j) = 0
              · skip
                refine x_iload K dX0_transpose_31 rfl ?_
                refine x_bipush K (nI 6) dX0_transpose_33 (by decide) ?_
                refine x_cmpN_ge K 72 dX0_transpose_35 (by decide) (by omega) (by omega) (fun q => absurd q (by omega)) (fun _ => ?_)
                refine x_aload_n K dX0_transpose_38 rfl ?_
                refine x_iload_n K dX0_transpose_39 rfl ?_
                refine x_iload K dX0_transpose_40 rfl ?_
                refine x_iload_n K dX0_transpose_42 rfl ?_
                refine caX_find0 K (by decide) hx (by omega) hj6 hf h0 (Nat.le_of_ble_eq_true rfl) dX0_transpose_43 ?_
                refine x_istore K [.ref (ad 0), .int (nI tn), .int (nI xn), .int (nI j), .int (nI i), .int ((-1))] dX0_transpose_46 (by decide) (Nat.le_of_ble_eq_true rfl) rfl ?_
                refine x_iload K dX0_transpose_48 rfl ?_
                refine x_if_lt K 66 dX0_transpose_50 (by decide) (fun _ => ?_) (fun q => absurd q (fun z => z (by decide)))
                refine x_iinc1 K [.ref (ad 0), .int (nI tn), .int (nI xn), .int (nI j), .int (nI (i + 1)), .int ((-1))] dX0_transpose_66 rfl (by decide) (Nat.le_of_ble_eq_true rfl) rfl ?_
                refine x_goto K 31 dX0_transpose_69 (by decide) ?_
                refine x_drop [.ref (ad 0), .int (nI tn), .int (nI xn), .int (nI j), .int (nI (i + 1))] 5 rfl ?_
                exact ih2 (i + 1) NC NV mk (by omega) (mk_emit0 hM (hbi.trans h0))
              · skip
                refine x_iload K dX0_transpose_31 rfl ?_
                refine x_bipush K (nI 6) dX0_transpose_33 (by decide) ?_
                refine x_cmpN_ge K 72 dX0_transpose_35 (by decide) (by omega) (by omega) (fun q => absurd q (by omega)) (fun _ => ?_)
                refine x_aload_n K dX0_transpose_38 rfl ?_
                refine x_iload_n K dX0_transpose_39 rfl ?_
                refine x_iload K dX0_transpose_40 rfl ?_
                refine x_iload_n K dX0_transpose_42 rfl ?_
                refine caX_find1 K (by decide) hx (by omega) hj6 hf h0 (Nat.le_of_ble_eq_true rfl) dX0_transpose_43 ?_
                refine x_istore K [.ref (ad 0), .int (nI tn), .int (nI xn), .int (nI j), .int (nI i), .int (nI (36 * xn + ct f (6 * i + j)))] dX0_transpose_46 (by decide) (Nat.le_of_ble_eq_true rfl) rfl ?_
                refine x_iload K dX0_transpose_48 rfl ?_
                refine x_if_lt K 66 dX0_transpose_50 (by decide) (fun q => absurd q (nI_pos (by omega))) (fun _ => ?_)
                refine x_aload_n K dX0_transpose_53 rfl ?_
                refine x_iload K dX0_transpose_54 rfl ?_
                refine x_aload_n K dX0_transpose_56 rfl ?_
                refine gtV K dX0_transpose_57 ?_
                refine x_iload K dX0_transpose_60 rfl ?_
                refine ldV K (36 * xn + ct f (6 * i + j)) (rfl) (by have := ct_lt (f := f) (show 6 * i + j < 36 by omega) h0; have := ct_le f 36; omega) (x := (f (6 * i + j))) ((hf.2 _ (by omega) h0).2) dX0_transpose_62 ?_
                refine caX_emit K (by decide) (b) (6 * j + i) (hM) (by omega) (by omega) (hbi.symm) (Nat.le_of_ble_eq_true rfl) dX0_transpose_63 (fun NC NV mk hM => ?_)
                refine x_iinc1 K [.ref (ad 0), .int (nI tn), .int (nI xn), .int (nI j), .int (nI (i + 1)), .int (nI (36 * xn + ct f (6 * i + j)))] dX0_transpose_66 rfl (by decide) (Nat.le_of_ble_eq_true rfl) rfl ?_
                refine x_goto K 31 dX0_transpose_69 (by decide) ?_
                refine x_drop [.ref (ad 0), .int (nI tn), .int (nI xn), .int (nI j), .int (nI (i + 1))] 5 rfl ?_
                exact ih2 (i + 1) NC NV mk (by omega) hM
          exact key2 6 0 NC NV mk (by omega) hM
      exact key 6 0 _ NC NV 0 Wk (by omega) mk_0 ns_0
    · skip
      refine x_iconst K (-1) dX0_transpose_14 (by decide) ?_
      rw [hQ0]
      exact x_iret K hr hlocks dX0_transpose_15 (S, C, V, NS, NC, NV, mk, Wk) (rfl) (sp_no (by simp [*]) hR)
end
section
set_option maxRecDepth 100000
/-! SparseKernels: masked, select, put -/
/-- the three slots in masked's packed number -/
def kx (p : Int32) : Int32 := p &&& nI 7
def ky (p : Int32) : Int32 := (p >>> (nI 3 &&& 31)) &&& nI 7
def kz (p : Int32) : Int32 := p >>> (nI 6 &&& 31)
set_option maxHeartbeats 8000000 in
theorem ctX_masked (l : Launch) {D : va_G} {ad : Nat → Nat} {bd : Nat → ClassId} {S C V NS NC NV : Nat → Int32} {mk : Nat} {Wk : Nat → Int32} {a : Nat → Int32} {t k : Int32} (hR : Rep S C V a) : CtI l yX0_masked cX0_masked 9 (some .int) 2 D (tyX bd) [.ref (ad 0), .int t, .int k] (wX ad bd S C V NS NC NV mk Wk) (fun r (u : U8) => r = spR (okb 5 t && okb 5 (kx k) && okb 5 (ky k) && okb 5 (kz k)) (mMsk a (kx k) (ky k) (kz k)) ∧ Rep u.1 u.2.1 u.2.2.1 (spS (okb 5 t && okb 5 (kx k) && okb 5 (ky k) && okb 5 (kz k)) a t (mMsk a (kx k) (ky k) (kz k)))) (fun u => wU ad bd u) := by
  refine x_enterI (own := RX0) (by decide) rfl (Nat.le_of_ble_eq_true rfl) (by simp [Value.category]) ?_
  intro p e s m args below meth c A K hr hlocks
  obtain ⟨Q0, hQ0⟩ : ∃ Q0 : State → Prop, Q0 = XQi below args s D (tyX bd) A (fun r (u : U8) => r = spR (okb 5 t && okb 5 (kx k) && okb 5 (ky k) && okb 5 (kz k)) (mMsk a (kx k) (ky k) (kz k)) ∧ Rep u.1 u.2.1 u.2.2.1 (spS (okb 5 t && okb 5 (kx k) && okb 5 (ky k) && okb 5 (kz k)) a t (mMsk a (kx k) (ky k) (kz k)))) (fun u => wU ad bd u) := ⟨_, rfl⟩
  rw [← hQ0]
  obtain ⟨mx, hmx⟩ : ∃ mx, mx = kx k := ⟨_, rfl⟩
  obtain ⟨my, hmy⟩ : ∃ my, my = ky k := ⟨_, rfl⟩
  obtain ⟨mz, hmz⟩ : ∃ mz, mz = kz k := ⟨_, rfl⟩
  refine x_iload_n K dX0_masked_0 rfl ?_
  refine x_bipush K (nI 7) dX0_masked_1 (by decide) ?_
  refine x_iand K dX0_masked_3 ?_
  refine x_top (y := mx) (hmx.symm) ?_
  refine x_istore_n K [.ref (ad 0), .int t, .int k, .int mx] dX0_masked_4 (by decide) (Nat.le_of_ble_eq_true rfl) rfl ?_
  refine x_iload_n K dX0_masked_5 rfl ?_
  refine x_iconst K (nI 3) dX0_masked_6 (by decide) ?_
  refine x_ishr K dX0_masked_7 ?_
  refine x_bipush K (nI 7) dX0_masked_8 (by decide) ?_
  refine x_iand K dX0_masked_10 ?_
  refine x_top (y := my) (hmy.symm) ?_
  refine x_istore K [.ref (ad 0), .int t, .int k, .int mx, .int my] dX0_masked_11 (by decide) (Nat.le_of_ble_eq_true rfl) rfl ?_
  refine x_iload_n K dX0_masked_13 rfl ?_
  refine x_bipush K (nI 6) dX0_masked_14 (by decide) ?_
  refine x_ishr K dX0_masked_16 ?_
  refine x_top (y := mz) (hmz.symm) ?_
  refine x_istore K [.ref (ad 0), .int t, .int k, .int mx, .int my, .int mz] dX0_masked_17 (by decide) (Nat.le_of_ble_eq_true rfl) rfl ?_
  refine x_iload_n K dX0_masked_19 rfl ?_
  refine caX_isSlot K (by decide) (Nat.le_of_ble_eq_true rfl) dX0_masked_20 ?_
  refine x_if_eqB K 49 dX0_masked_23 (by decide) (fun h1 => ?_) (fun h1 => ?_)
  · skip
    refine x_iconst K (-1) dX0_masked_49 (by decide) ?_
    rw [hQ0]
    exact x_iret K hr hlocks dX0_masked_50 (S, C, V, NS, NC, NV, mk, Wk) (rfl) (sp_no (by first | (rw [← hmx, ← hmy, ← hmz, h4]; simp; done) | (rw [← hmx, ← hmy, ← hmz, h3]; simp; done) | (rw [← hmx, h2]; simp; done) | (rw [h1]; rfl)) hR)
  · skip
    refine x_iload_n K dX0_masked_26 rfl ?_
    refine caX_isSlot K (by decide) (Nat.le_of_ble_eq_true rfl) dX0_masked_27 ?_
    refine x_if_eqB K 49 dX0_masked_30 (by decide) (fun h2 => ?_) (fun h2 => ?_)
    · skip
      refine x_iconst K (-1) dX0_masked_49 (by decide) ?_
      rw [hQ0]
      exact x_iret K hr hlocks dX0_masked_50 (S, C, V, NS, NC, NV, mk, Wk) (rfl) (sp_no (by first | (rw [← hmx, ← hmy, ← hmz, h4]; simp; done) | (rw [← hmx, ← hmy, ← hmz, h3]; simp; done) | (rw [← hmx, h2]; simp; done) | (rw [h1]; rfl)) hR)
    · skip
      refine x_iload K dX0_masked_33 rfl ?_
      refine caX_isSlot K (by decide) (Nat.le_of_ble_eq_true rfl) dX0_masked_35 ?_
      refine x_if_eqB K 49 dX0_masked_38 (by decide) (fun h3 => ?_) (fun h3 => ?_)
      · skip
        refine x_iconst K (-1) dX0_masked_49 (by decide) ?_
        rw [hQ0]
        exact x_iret K hr hlocks dX0_masked_50 (S, C, V, NS, NC, NV, mk, Wk) (rfl) (sp_no (by first | (rw [← hmx, ← hmy, ← hmz, h4]; simp; done) | (rw [← hmx, ← hmy, ← hmz, h3]; simp; done) | (rw [← hmx, h2]; simp; done) | (rw [h1]; rfl)) hR)
      · skip
        refine x_iload K dX0_masked_41 rfl ?_
        refine caX_isSlot K (by decide) (Nat.le_of_ble_eq_true rfl) dX0_masked_43 ?_
        refine x_if_neB K 51 dX0_masked_46 (by decide) (fun h4 => ?_) (fun h4 => ?_)
        · skip
          obtain ⟨tn, ht, rfl⟩ := okb_of h1
          obtain ⟨xn, hx, rfl⟩ := okb_of h2
          obtain ⟨yn, hy, rfl⟩ := okb_of h3
          obtain ⟨zn, hz, rfl⟩ := okb_of h4
          have hok : (okb 5 (nI tn) && okb 5 (kx k) && okb 5 (ky k) && okb 5 (kz k)) = true := by rw [← hmx, ← hmy, ← hmz, h1, h2, h3, h4]; rfl
          obtain ⟨b, hbe⟩ : ∃ b, b = mMsk a (kx k) (ky k) (kz k) := ⟨_, rfl⟩
          have hb : ∀ c, c < 36 → b c = if sl a zn c = 0 then 0 else en (sl a xn) (sl a yn) (c / 6) (c % 6) := fun c _ => by rw [hbe, ← hmx, ← hmy, ← hmz]; unfold mMsk; rw [cN_nI (by omega), cN_nI (by omega), cN_nI (by omega)]
          obtain ⟨f, hfe⟩ : ∃ f, f = sl a zn := ⟨_, rfl⟩
          have hf := hR _ hz
          rw [← hfe] at hb hf
          refine x_aload_n K dX0_masked_51 rfl ?_
          refine caX_begin K (by decide) (Nat.le_of_ble_eq_true rfl) dX0_masked_52 ?_
          refine x_iconst K (nI 0) dX0_masked_55 (by decide) ?_
          refine x_istore K [.ref (ad 0), .int (nI tn), .int k, .int (nI xn), .int (nI yn), .int (nI zn), .int (nI 0)] dX0_masked_56 (by decide) (Nat.le_of_ble_eq_true rfl) rfl ?_
          have key : ∀ (n : Nat) (i : Nat) (NS NC NV : Nat → Int32) (mk : Nat) (Wk : Nat → Int32), i + n = 6 → Mk b (6 * i) NC NV mk → NSok b i NS → XW p l e (rD 2) s m args below meth c 0 0 Q0 D A 9 (wX ad bd S C V NS NC NV mk Wk) 58 [.ref (ad 0), .int (nI tn), .int k, .int (nI xn), .int (nI yn), .int (nI zn), .int (nI i)] [] := by
            intro n
            induction n with
            | zero =>
              intro i NS NC NV mk Wk hi hM hN
              obtain rfl : i = 6 := by omega
              refine x_iload K dX0_masked_58 rfl ?_
              refine x_bipush K (nI 6) dX0_masked_60 (by decide) ?_
              refine x_cmpN_ge K 137 dX0_masked_62 (by decide) (by omega) (by omega) (fun _ => ?_) (fun q => absurd q (by omega))
              refine x_aload_n K dX0_masked_137 rfl ?_
              refine x_iload_n K dX0_masked_138 rfl ?_
              refine caX_store K (by decide) ht hM hN hR (Nat.le_of_ble_eq_true rfl) dX0_masked_139 (fun S C V hR => ?_)
              rw [hQ0]
              exact x_iret K hr hlocks dX0_masked_142 (S, C, V, NS, NC, NV, mk, Wk) (rfl) (sp_ok hok hbe ht hR)
            | succ n ih =>
              intro i NS NC NV mk Wk hi hM hN
              have hi6 : i < 6 := by omega
              refine x_iload K dX0_masked_58 rfl ?_
              refine x_bipush K (nI 6) dX0_masked_60 (by decide) ?_
              refine x_cmpN_ge K 137 dX0_masked_62 (by decide) (by omega) (by omega) (fun q => absurd q (by omega)) (fun _ => ?_)
              refine x_aload_n K dX0_masked_65 rfl ?_
              refine x_iload_n K dX0_masked_66 rfl ?_
              refine x_iload K dX0_masked_67 rfl ?_
              refine x_iload K dX0_masked_69 rfl ?_
              refine caX_productRow K (by decide) hx hy hi6 (hR _ hx) (hR _ hy) (Nat.le_of_ble_eq_true rfl) dX0_masked_71 (fun Wk hW => ?_)
              refine x_aload_n K dX0_masked_74 rfl ?_
              refine x_iload K dX0_masked_75 rfl ?_
              refine x_iload K dX0_masked_77 rfl ?_
              refine caX_from K (by decide) hf hz hi6 (Nat.le_of_ble_eq_true rfl) dX0_masked_79 ?_
              refine x_istore K [.ref (ad 0), .int (nI tn), .int k, .int (nI xn), .int (nI yn), .int (nI zn), .int (nI i), .int (nI (36 * zn + ct f (6 * i)))] dX0_masked_82 (by decide) (Nat.le_of_ble_eq_true rfl) rfl ?_
              have key2 : ∀ (n2 : Nat) (j : Nat) (NC NV : Nat → Int32) (mk : Nat), j ≤ 6 → 6 < j + n2 → Mk b (6 * i + j) NC NV mk → XW p l e (rD 2) s m args below meth c 0 0 Q0 D A 9 (wX ad bd S C V NS NC NV mk Wk) 84 [.ref (ad 0), .int (nI tn), .int k, .int (nI xn), .int (nI yn), .int (nI zn), .int (nI i), .int (nI (36 * zn + ct f (6 * i + j)))] [] := by
                intro n2
                induction n2 with
                | zero =>
                  intro j NC NV mk hj hn hM
                  exact absurd hn (by omega)
                | succ n2 ih2 =>
                  intro j NC NV mk hj hn hM
                  have l1 := ct_row_le (f := f) hi6 hj
                  have l3 := ct_row_le (f := f) hi6 (Nat.le_refl 6)
                  rcases it_row hf hi6 hj with ⟨e1, zf⟩ | ⟨j1, a1, a2, a3, a4, a5, a6, a7, a8⟩
                  · skip
                    have hM : Mk b (6 * i + 6) NC NV mk := mk_skip hM (by omega) (fun c h1 h2 => by rw [hb c (by omega), if_pos]; rw [show c = 6 * i + (c - 6 * i) by omega]; exact zf _ (by omega) (by omega))
                    refine x_iload K dX0_masked_84 rfl ?_
                    refine x_aload_n K dX0_masked_86 rfl ?_
                    refine x_iload K dX0_masked_87 rfl ?_
                    refine x_iload K dX0_masked_89 rfl ?_
                    refine caX_upTo K (by decide) hf hz hi6 (Nat.le_of_ble_eq_true rfl) dX0_masked_91 ?_
                    refine x_cmpN_ge K 125 dX0_masked_94 (by decide) (by omega) (by omega) (fun _ => ?_) (fun q => absurd q (by omega))
                    refine x_aload_n K dX0_masked_125 rfl ?_
                    refine x_iload K dX0_masked_126 rfl ?_
                    refine caX_endRow K (by decide) hN (by omega) hM.1 (Nat.le_of_ble_eq_true rfl) dX0_masked_128 (fun NS hN => ?_)
                    refine x_iinc1 K [.ref (ad 0), .int (nI tn), .int k, .int (nI xn), .int (nI yn), .int (nI zn), .int (nI (i + 1)), .int (nI (36 * zn + ct f (6 * i + j)))] dX0_masked_131 rfl (by decide) (Nat.le_of_ble_eq_true rfl) rfl ?_
                    refine x_goto K 58 dX0_masked_134 (by decide) ?_
                    refine x_drop [.ref (ad 0), .int (nI tn), .int k, .int (nI xn), .int (nI yn), .int (nI zn), .int (nI (i + 1))] 7 rfl ?_
                    exact ih (i + 1) NS NC NV mk Wk (by omega) hM hN
                  · skip
                    refine x_iload K dX0_masked_84 rfl ?_
                    refine x_aload_n K dX0_masked_86 rfl ?_
                    refine x_iload K dX0_masked_87 rfl ?_
                    refine x_iload K dX0_masked_89 rfl ?_
                    refine caX_upTo K (by decide) hf hz hi6 (Nat.le_of_ble_eq_true rfl) dX0_masked_91 ?_
                    refine x_cmpN_ge K 125 dX0_masked_94 (by decide) (by omega) (by omega) (fun q => absurd q (by omega)) (fun _ => ?_)
                    refine x_aload_n K dX0_masked_97 rfl ?_
                    refine gtC K dX0_masked_98 ?_
                    refine x_iload K dX0_masked_101 rfl ?_
                    refine ldC K (36 * zn + ct f (6 * i + j)) (rfl) (by omega) (x := (nI j1)) (a6) dX0_masked_103 ?_
                    refine x_istore K [.ref (ad 0), .int (nI tn), .int k, .int (nI xn), .int (nI yn), .int (nI zn), .int (nI i), .int (nI (36 * zn + ct f (6 * i + j))), .int (nI j1)] dX0_masked_104 (by decide) (Nat.le_of_ble_eq_true rfl) rfl ?_
                    refine x_aload_n K dX0_masked_106 rfl ?_
                    refine x_iload K dX0_masked_107 rfl ?_
                    refine x_aload_n K dX0_masked_109 rfl ?_
                    refine gtWk K dX0_masked_110 ?_
                    refine x_iload K dX0_masked_113 rfl ?_
                    refine ldWk K (j1) (rfl) (by omega) (x := (en (sl a xn) (sl a yn) i j1)) (hW j1 a2) dX0_masked_115 ?_
                    refine caX_emit K (by decide) (b) (6 * i + j1) (mk_skip hM (by omega) (fun c h1 h2 => by rw [hb c (by omega), if_pos]; rw [show c = 6 * i + (c - 6 * i) by omega]; exact a4 _ (by omega) (by omega))) (by omega) (by omega) (by rw [hb _ (by omega), if_neg a3, show (6 * i + j1) / 6 = i by omega, show (6 * i + j1) % 6 = j1 by omega]) (Nat.le_of_ble_eq_true rfl) dX0_masked_116 (fun NC NV mk hM => ?_)
                    refine x_iinc1 K [.ref (ad 0), .int (nI tn), .int k, .int (nI xn), .int (nI yn), .int (nI zn), .int (nI i), .int (nI (36 * zn + ct f (6 * i + j) + 1)), .int (nI j1)] dX0_masked_119 rfl (by decide) (Nat.le_of_ble_eq_true rfl) rfl ?_
                    refine x_goto K 84 dX0_masked_122 (by decide) ?_
                    refine x_drop [.ref (ad 0), .int (nI tn), .int k, .int (nI xn), .int (nI yn), .int (nI zn), .int (nI i), .int (nI (36 * zn + ct f (6 * i + j) + 1))] 8 rfl ?_
                    rw [show 36 * zn + ct f (6 * i + j) + 1 = 36 * zn + ct f (6 * i + (j1 + 1)) by omega]
                    exact ih2 (j1 + 1) NC NV mk (by omega) (by omega) hM
              exact key2 7 0 NC NV mk (by omega) (by omega) hM
          exact key 6 0 _ NC NV 0 Wk (by omega) mk_0 ns_0
        · skip
          refine x_iconst K (-1) dX0_masked_49 (by decide) ?_
          rw [hQ0]
          exact x_iret K hr hlocks dX0_masked_50 (S, C, V, NS, NC, NV, mk, Wk) (rfl) (sp_no (by first | (rw [← hmx, ← hmy, ← hmz, h4]; simp; done) | (rw [← hmx, ← hmy, ← hmz, h3]; simp; done) | (rw [← hmx, h2]; simp; done) | (rw [h1]; rfl)) hR)
set_option maxHeartbeats 8000000 in
theorem ctX_select (l : Launch) {D : va_G} {ad : Nat → Nat} {bd : Nat → ClassId} {S C V NS NC NV : Nat → Int32} {mk : Nat} {Wk : Nat → Int32} {a : Nat → Int32} {t x k : Int32} (hR : Rep S C V a) : CtI l yX0_select cX0_select 7 (some .int) 2 D (tyX bd) [.ref (ad 0), .int t, .int x, .int k] (wX ad bd S C V NS NC NV mk Wk) (fun r (u : U8) => r = spR (okb 5 t && okb 5 x && decide (¬ k < 0) && decide (¬ nI 4095 < k)) (mSel a x k) ∧ Rep u.1 u.2.1 u.2.2.1 (spS (okb 5 t && okb 5 x && decide (¬ k < 0) && decide (¬ nI 4095 < k)) a t (mSel a x k))) (fun u => wU ad bd u) := by
  refine x_enterI (own := RX0) (by decide) rfl (Nat.le_of_ble_eq_true rfl) (by simp [Value.category]) ?_
  intro p e s m args below meth c A K hr hlocks
  obtain ⟨Q0, hQ0⟩ : ∃ Q0 : State → Prop, Q0 = XQi below args s D (tyX bd) A (fun r (u : U8) => r = spR (okb 5 t && okb 5 x && decide (¬ k < 0) && decide (¬ nI 4095 < k)) (mSel a x k) ∧ Rep u.1 u.2.1 u.2.2.1 (spS (okb 5 t && okb 5 x && decide (¬ k < 0) && decide (¬ nI 4095 < k)) a t (mSel a x k))) (fun u => wU ad bd u) := ⟨_, rfl⟩
  rw [← hQ0]
  refine x_iload_n K dX0_select_0 rfl ?_
  refine caX_isSlot K (by decide) (Nat.le_of_ble_eq_true rfl) dX0_select_1 ?_
  refine x_if_eqB K 25 dX0_select_4 (by decide) (fun h1 => ?_) (fun h1 => ?_)
  · skip
    refine x_iconst K (-1) dX0_select_25 (by decide) ?_
    rw [hQ0]
    exact x_iret K hr hlocks dX0_select_26 (S, C, V, NS, NC, NV, mk, Wk) (rfl) (sp_no (by simp [h1]) hR)
  · skip
    refine x_iload_n K dX0_select_7 rfl ?_
    refine caX_isSlot K (by decide) (Nat.le_of_ble_eq_true rfl) dX0_select_8 ?_
    refine x_if_eqB K 25 dX0_select_11 (by decide) (fun h2 => ?_) (fun h2 => ?_)
    · skip
      refine x_iconst K (-1) dX0_select_25 (by decide) ?_
      rw [hQ0]
      exact x_iret K hr hlocks dX0_select_26 (S, C, V, NS, NC, NV, mk, Wk) (rfl) (sp_no (by simp [h2]) hR)
    · skip
      refine x_iload_n K dX0_select_14 rfl ?_
      refine x_if_lt K 25 dX0_select_15 (by decide) (fun h3 => ?_) (fun h3 => ?_)
      · skip
        refine x_iconst K (-1) dX0_select_25 (by decide) ?_
        rw [hQ0]
        exact x_iret K hr hlocks dX0_select_26 (S, C, V, NS, NC, NV, mk, Wk) (rfl) (sp_no (by simp [h3]) hR)
      · skip
        refine x_iload_n K dX0_select_18 rfl ?_
        refine x_sipush K (nI 4095) dX0_select_19 (by decide) ?_
        refine x_cmp_le K 27 dX0_select_22 (by decide) (fun h4 => ?_) (fun h4 => ?_)
        · skip
          have h4 : ¬ nI 4095 < k := fun z => absurd (Int32.lt_iff_toInt_lt.mp z) (by have := Int32.le_iff_toInt_le.mp h4; omega)
          obtain ⟨tn, ht, rfl⟩ := okb_of h1
          obtain ⟨xn, hx, rfl⟩ := okb_of h2
          have hok : (okb 5 (nI tn) && okb 5 (nI xn) && decide (¬ k < 0) && decide (¬ nI 4095 < k)) = true := by rw [h1, h2, decide_eq_true h3, decide_eq_true h4]; rfl
          obtain ⟨b, hbe⟩ : ∃ b, b = mSel a (nI xn) k := ⟨_, rfl⟩
          have hb : ∀ c, c < 36 → b c = if bt1 k (c / 6) = 1 ∧ bt1 k (6 + c % 6) = 1 then sl a xn c else 0 := fun c _ => by rw [hbe]; unfold mSel; rw [cN_nI (by omega)]
          obtain ⟨f, hfe⟩ : ∃ f, f = sl a xn := ⟨_, rfl⟩
          have hf := hR _ hx
          rw [← hfe] at hb hf
          refine x_aload_n K dX0_select_27 rfl ?_
          refine caX_begin K (by decide) (Nat.le_of_ble_eq_true rfl) dX0_select_28 ?_
          refine x_iconst K (nI 0) dX0_select_31 (by decide) ?_
          refine x_istore K [.ref (ad 0), .int (nI tn), .int (nI xn), .int k, .int (nI 0)] dX0_select_32 (by decide) (Nat.le_of_ble_eq_true rfl) rfl ?_
          have key : ∀ (n : Nat) (i : Nat) (NS NC NV : Nat → Int32) (mk : Nat) (Wk : Nat → Int32), i + n = 6 → Mk b (6 * i) NC NV mk → NSok b i NS → XW p l e (rD 2) s m args below meth c 0 0 Q0 D A 7 (wX ad bd S C V NS NC NV mk Wk) 34 [.ref (ad 0), .int (nI tn), .int (nI xn), .int k, .int (nI i)] [] := by
            intro n
            induction n with
            | zero =>
              intro i NS NC NV mk Wk hi hM hN
              obtain rfl : i = 6 := by omega
              refine x_iload K dX0_select_34 rfl ?_
              refine x_bipush K (nI 6) dX0_select_36 (by decide) ?_
              refine x_cmpN_ge K 136 dX0_select_38 (by decide) (by omega) (by omega) (fun _ => ?_) (fun q => absurd q (by omega))
              refine x_aload_n K dX0_select_136 rfl ?_
              refine x_iload_n K dX0_select_137 rfl ?_
              refine caX_store K (by decide) ht hM hN hR (Nat.le_of_ble_eq_true rfl) dX0_select_138 (fun S C V hR => ?_)
              rw [hQ0]
              exact x_iret K hr hlocks dX0_select_141 (S, C, V, NS, NC, NV, mk, Wk) (rfl) (sp_ok hok hbe ht hR)
            | succ n ih =>
              intro i NS NC NV mk Wk hi hM hN
              have hi6 : i < 6 := by omega
              have l0 : ct f (6 * i) ≤ 36 := ct_row_le (f := f) hi6 (Nat.zero_le 6)
              have l3 := ct_row_le (f := f) hi6 (Nat.le_refl 6)
              refine x_iload K dX0_select_34 rfl ?_
              refine x_bipush K (nI 6) dX0_select_36 (by decide) ?_
              refine x_cmpN_ge K 136 dX0_select_38 (by decide) (by omega) (by omega) (fun q => absurd q (by omega)) (fun _ => ?_)
              refine x_iload_n K dX0_select_41 rfl ?_
              refine x_iload K dX0_select_42 rfl ?_
              refine x_ishr K dX0_select_44 ?_
              refine x_iconst K (nI 1) dX0_select_45 (by decide) ?_
              refine x_iand K dX0_select_46 ?_
              refine x_top (y := (bt1 k i)) (rfl) ?_
              rcases bt1_01 k i with hk0 | hk1
              · skip
                have hM : Mk b (6 * i + 6) NC NV mk := mk_skip hM (by omega) (fun c h1 h2 => by rw [hb c (by omega), if_neg]; rw [show c / 6 = i by omega, hk0]; exact fun z => absurd z.1 (by decide))
                refine x_if_eq K 54 dX0_select_47 (by decide) (fun _ => ?_) (fun q => absurd q (fun z => z hk0))
                refine x_iconst K (nI 0) dX0_select_54 (by decide) ?_
                refine x_istore K [.ref (ad 0), .int (nI tn), .int (nI xn), .int k, .int (nI i), .int (nI 0)] dX0_select_55 (by decide) (Nat.le_of_ble_eq_true rfl) rfl ?_
                refine x_aload_n K dX0_select_57 rfl ?_
                refine x_iload_n K dX0_select_58 rfl ?_
                refine x_iload K dX0_select_59 rfl ?_
                refine caX_from K (by decide) hf hx hi6 (Nat.le_of_ble_eq_true rfl) dX0_select_61 ?_
                refine x_istore K [.ref (ad 0), .int (nI tn), .int (nI xn), .int k, .int (nI i), .int (nI 0), .int (nI (36 * xn + ct f (6 * i)))] dX0_select_64 (by decide) (Nat.le_of_ble_eq_true rfl) rfl ?_
                refine x_iload K dX0_select_66 rfl ?_
                refine x_aload_n K dX0_select_68 rfl ?_
                refine x_iload_n K dX0_select_69 rfl ?_
                refine x_iload K dX0_select_70 rfl ?_
                refine caX_upTo K (by decide) hf hx hi6 (Nat.le_of_ble_eq_true rfl) dX0_select_72 ?_
                refine x_cmpN_ge K 124 dX0_select_75 (by decide) (by omega) (by omega) (fun hq => ?_) (fun hq => ?_)
                · skip
                  refine x_aload_n K dX0_select_124 rfl ?_
                  refine x_iload K dX0_select_125 rfl ?_
                  refine caX_endRow K (by decide) hN (by omega) hM.1 (Nat.le_of_ble_eq_true rfl) dX0_select_127 (fun NS hN => ?_)
                  refine x_iinc1 K [.ref (ad 0), .int (nI tn), .int (nI xn), .int k, .int (nI (i + 1)), .int (nI 0), .int (nI (36 * xn + ct f (6 * i)))] dX0_select_130 rfl (by decide) (Nat.le_of_ble_eq_true rfl) rfl ?_
                  refine x_goto K 34 dX0_select_133 (by decide) ?_
                  refine x_drop [.ref (ad 0), .int (nI tn), .int (nI xn), .int k, .int (nI (i + 1))] 5 rfl ?_
                  exact ih (i + 1) NS NC NV mk Wk (by omega) hM hN
                · skip
                  refine x_iload K dX0_select_78 rfl ?_
                  refine x_if_eq K 124 dX0_select_80 (by decide) (fun _ => ?_) (fun q => absurd q (fun z => z rfl))
                  refine x_aload_n K dX0_select_124 rfl ?_
                  refine x_iload K dX0_select_125 rfl ?_
                  refine caX_endRow K (by decide) hN (by omega) hM.1 (Nat.le_of_ble_eq_true rfl) dX0_select_127 (fun NS hN => ?_)
                  refine x_iinc1 K [.ref (ad 0), .int (nI tn), .int (nI xn), .int k, .int (nI (i + 1)), .int (nI 0), .int (nI (36 * xn + ct f (6 * i)))] dX0_select_130 rfl (by decide) (Nat.le_of_ble_eq_true rfl) rfl ?_
                  refine x_goto K 34 dX0_select_133 (by decide) ?_
                  refine x_drop [.ref (ad 0), .int (nI tn), .int (nI xn), .int k, .int (nI (i + 1))] 5 rfl ?_
                  exact ih (i + 1) NS NC NV mk Wk (by omega) hM hN
              · skip
                refine x_if_eq K 54 dX0_select_47 (by decide) (fun q => absurd q (by rw [hk1]; decide)) (fun _ => ?_)
                refine x_iconst K (nI 1) dX0_select_50 (by decide) ?_
                refine x_goto K 55 dX0_select_51 (by decide) ?_
                refine x_istore K [.ref (ad 0), .int (nI tn), .int (nI xn), .int k, .int (nI i), .int (nI 1)] dX0_select_55 (by decide) (Nat.le_of_ble_eq_true rfl) rfl ?_
                refine x_aload_n K dX0_select_57 rfl ?_
                refine x_iload_n K dX0_select_58 rfl ?_
                refine x_iload K dX0_select_59 rfl ?_
                refine caX_from K (by decide) hf hx hi6 (Nat.le_of_ble_eq_true rfl) dX0_select_61 ?_
                refine x_istore K [.ref (ad 0), .int (nI tn), .int (nI xn), .int k, .int (nI i), .int (nI 1), .int (nI (36 * xn + ct f (6 * i)))] dX0_select_64 (by decide) (Nat.le_of_ble_eq_true rfl) rfl ?_
                have key2 : ∀ (n2 : Nat) (j : Nat) (NC NV : Nat → Int32) (mk : Nat), j ≤ 6 → 6 < j + n2 → Mk b (6 * i + j) NC NV mk → XW p l e (rD 2) s m args below meth c 0 0 Q0 D A 7 (wX ad bd S C V NS NC NV mk Wk) 66 [.ref (ad 0), .int (nI tn), .int (nI xn), .int k, .int (nI i), .int (nI 1), .int (nI (36 * xn + ct f (6 * i + j)))] [] := by
                  intro n2
                  induction n2 with
                  | zero =>
                    intro j NC NV mk hj hn hM
                    exact absurd hn (by omega)
                  | succ n2 ih2 =>
                    intro j NC NV mk hj hn hM
                    have l1 := ct_row_le (f := f) hi6 hj
                    rcases it_row hf hi6 hj with ⟨e1, zf⟩ | ⟨j1, a1, a2, a3, a4, a5, a6, a7, a8⟩
                    · skip
                      have hM : Mk b (6 * i + 6) NC NV mk := mk_skip hM (by omega) (fun c h1 h2 => by rw [hb c (by omega), show c = 6 * i + (c - 6 * i) by omega, zf _ (by omega) (by omega)]; exact ite_self 0)
                      refine x_iload K dX0_select_66 rfl ?_
                      refine x_aload_n K dX0_select_68 rfl ?_
                      refine x_iload_n K dX0_select_69 rfl ?_
                      refine x_iload K dX0_select_70 rfl ?_
                      refine caX_upTo K (by decide) hf hx hi6 (Nat.le_of_ble_eq_true rfl) dX0_select_72 ?_
                      refine x_cmpN_ge K 124 dX0_select_75 (by decide) (by omega) (by omega) (fun _ => ?_) (fun q => absurd q (by omega))
                      refine x_aload_n K dX0_select_124 rfl ?_
                      refine x_iload K dX0_select_125 rfl ?_
                      refine caX_endRow K (by decide) hN (by omega) hM.1 (Nat.le_of_ble_eq_true rfl) dX0_select_127 (fun NS hN => ?_)
                      refine x_iinc1 K [.ref (ad 0), .int (nI tn), .int (nI xn), .int k, .int (nI (i + 1)), .int (nI 1), .int (nI (36 * xn + ct f (6 * i + j)))] dX0_select_130 rfl (by decide) (Nat.le_of_ble_eq_true rfl) rfl ?_
                      refine x_goto K 34 dX0_select_133 (by decide) ?_
                      refine x_drop [.ref (ad 0), .int (nI tn), .int (nI xn), .int k, .int (nI (i + 1))] 5 rfl ?_
                      exact ih (i + 1) NS NC NV mk Wk (by omega) hM hN
                    · skip
                      have hM : Mk b (6 * i + j1) NC NV mk := mk_skip hM (by omega) (fun c h1 h2 => by rw [hb c (by omega), show c = 6 * i + (c - 6 * i) by omega, a4 _ (by omega) (by omega)]; exact ite_self 0)
                      refine x_iload K dX0_select_66 rfl ?_
                      refine x_aload_n K dX0_select_68 rfl ?_
                      refine x_iload_n K dX0_select_69 rfl ?_
                      refine x_iload K dX0_select_70 rfl ?_
                      refine caX_upTo K (by decide) hf hx hi6 (Nat.le_of_ble_eq_true rfl) dX0_select_72 ?_
                      refine x_cmpN_ge K 124 dX0_select_75 (by decide) (by omega) (by omega) (fun q => absurd q (by omega)) (fun _ => ?_)
                      refine x_iload K dX0_select_78 rfl ?_
                      refine x_if_eq K 124 dX0_select_80 (by decide) (fun q => absurd q (by decide)) (fun _ => ?_)
                      refine x_iload_n K dX0_select_83 rfl ?_
                      refine x_bipush K (nI 6) dX0_select_84 (by decide) ?_
                      refine x_aload_n K dX0_select_86 rfl ?_
                      refine gtC K dX0_select_87 ?_
                      refine x_iload K dX0_select_90 rfl ?_
                      refine ldC K (36 * xn + ct f (6 * i + j)) (rfl) (by omega) (x := (nI j1)) (a6) dX0_select_92 ?_
                      refine x_iaddN K dX0_select_93 ?_
                      refine x_ishr K dX0_select_94 ?_
                      refine x_iconst K (nI 1) dX0_select_95 (by decide) ?_
                      refine x_iand K dX0_select_96 ?_
                      refine x_top (y := (bt1 k (6 + j1))) (rfl) ?_
                      rcases bt1_01 k (6 + j1) with hq0 | hq1
                      · skip
                        refine x_if_eq K 118 dX0_select_97 (by decide) (fun _ => ?_) (fun q => absurd q (fun z => z hq0))
                        refine x_iinc1 K [.ref (ad 0), .int (nI tn), .int (nI xn), .int k, .int (nI i), .int (nI 1), .int (nI (36 * xn + ct f (6 * i + j) + 1))] dX0_select_118 rfl (by decide) (Nat.le_of_ble_eq_true rfl) rfl ?_
                        refine x_goto K 66 dX0_select_121 (by decide) ?_
                        rw [show 36 * xn + ct f (6 * i + j) + 1 = 36 * xn + ct f (6 * i + (j1 + 1)) by omega]
                        refine ih2 (j1 + 1) NC NV mk (by omega) (by omega) (mk_emit0 (n := 6 * i + j1) hM ?_)
                        rw [hb _ (by omega), if_neg]
                        rw [show (6 * i + j1) % 6 = j1 by omega, hq0]
                        exact fun z => absurd z.2 (by decide)
                      · skip
                        refine x_if_eq K 118 dX0_select_97 (by decide) (fun q => absurd q (by rw [hq1]; decide)) (fun _ => ?_)
                        refine x_aload_n K dX0_select_100 rfl ?_
                        refine x_aload_n K dX0_select_101 rfl ?_
                        refine gtC K dX0_select_102 ?_
                        refine x_iload K dX0_select_105 rfl ?_
                        refine ldC K (36 * xn + ct f (6 * i + j)) (rfl) (by omega) (x := (nI j1)) (a6) dX0_select_107 ?_
                        refine x_aload_n K dX0_select_108 rfl ?_
                        refine gtV K dX0_select_109 ?_
                        refine x_iload K dX0_select_112 rfl ?_
                        refine ldV K (36 * xn + ct f (6 * i + j)) (rfl) (by omega) (x := (f (6 * i + j1))) (a7) dX0_select_114 ?_
                        refine caX_emit K (by decide) (b) (6 * i + j1) (hM) (by omega) (by omega) (by rw [hb _ (by omega), if_pos]; rw [show (6 * i + j1) % 6 = j1 by omega, show (6 * i + j1) / 6 = i by omega]; exact ⟨hk1, hq1⟩) (Nat.le_of_ble_eq_true rfl) dX0_select_115 (fun NC NV mk hM => ?_)
                        refine x_iinc1 K [.ref (ad 0), .int (nI tn), .int (nI xn), .int k, .int (nI i), .int (nI 1), .int (nI (36 * xn + ct f (6 * i + j) + 1))] dX0_select_118 rfl (by decide) (Nat.le_of_ble_eq_true rfl) rfl ?_
                        refine x_goto K 66 dX0_select_121 (by decide) ?_
                        rw [show 36 * xn + ct f (6 * i + j) + 1 = 36 * xn + ct f (6 * i + (j1 + 1)) by omega]
                        exact ih2 (j1 + 1) NC NV mk (by omega) (by omega) hM
                exact key2 7 0 NC NV mk (by omega) (by omega) hM
          exact key 6 0 _ NC NV 0 Wk (by omega) mk_0 ns_0
        · skip
          have h4 : nI 4095 < k := Int32.lt_iff_toInt_lt.mpr (by have : ¬ k.toInt ≤ (nI 4095).toInt := fun z => h4 (Int32.le_iff_toInt_le.mpr z); omega)
          refine x_iconst K (-1) dX0_select_25 (by decide) ?_
          rw [hQ0]
          exact x_iret K hr hlocks dX0_select_26 (S, C, V, NS, NC, NV, mk, Wk) (rfl) (sp_no (by simp [h4]) hR)
theorem putm_upd {a b : Nat → Int32} {t k : Nat} {v : Int32} (hk : k < 36) (hb : ∀ c, c < 36 → b c = upd (sl a t) k v c) : putm a t b = upd a (36 * t + k) v := by
  funext q
  unfold putm
  by_cases h : 36 * t ≤ q ∧ q < 36 * t + 36
  · rw [if_pos h, hb _ (by omega)]
    by_cases hq : q = 36 * t + k
    · rw [hq, pk_us, show 36 * t + k - 36 * t = k by omega, pk_us]
    · rw [pk_un hq, pk_un (by omega)]
      show a (36 * t + (q - 36 * t)) = a q
      congr 1
      omega
  · rw [if_neg h, pk_un (by omega)]
set_option maxHeartbeats 8000000 in
theorem ctX_put (l : Launch) {D : va_G} {ad : Nat → Nat} {bd : Nat → ClassId} {S C V NS NC NV : Nat → Int32} {mk : Nat} {Wk : Nat → Int32} {a : Nat → Int32} {t x y v : Int32} (hR : Rep S C V a) : CtI l yX0_put cX0_put 7 (some .boolean) 2 D (tyX bd) [.ref (ad 0), .int t, .int x, .int y, .int v] (wX ad bd S C V NS NC NV mk Wk) (fun r (u : U8) => r = vPutR t x y ∧ Rep u.1 u.2.1 u.2.2.1 (vPutS a t x y v)) (fun u => wU ad bd u) := by
  refine x_enterI (own := RX0) (by decide) rfl (Nat.le_of_ble_eq_true rfl) (by simp [Value.category]) ?_
  intro p e s m args below meth c A K hr hlocks
  obtain ⟨Q0, hQ0⟩ : ∃ Q0 : State → Prop, Q0 = XQi below args s D (tyX bd) A (fun r (u : U8) => r = vPutR t x y ∧ Rep u.1 u.2.1 u.2.2.1 (vPutS a t x y v)) (fun u => wU ad bd u) := ⟨_, rfl⟩
  rw [← hQ0]
  refine x_iload_n K dX0_put_0 rfl ?_
  refine caX_isSlot K (by decide) (Nat.le_of_ble_eq_true rfl) dX0_put_1 ?_
  refine x_if_eqB K 21 dX0_put_4 (by decide) (fun h1 => ?_) (fun h1 => ?_)
  · skip
    refine x_iconst K (nI 0) dX0_put_21 (by decide) ?_
    rw [hQ0]
    exact x_zret K hr hlocks dX0_put_22 (S, C, V, NS, NC, NV, mk, Wk) (rfl) (by unfold vPutR vPutS; rw [show (okb 5 t && okb 6 x && okb 6 y) = false by simp [*]]; exact ⟨rfl, hR⟩) (Or.inl rfl)
  · skip
    refine x_iload_n K dX0_put_7 rfl ?_
    refine caX_isIndex K (by decide) (Nat.le_of_ble_eq_true rfl) dX0_put_8 ?_
    refine x_if_eqB K 21 dX0_put_11 (by decide) (fun h2 => ?_) (fun h2 => ?_)
    · skip
      refine x_iconst K (nI 0) dX0_put_21 (by decide) ?_
      rw [hQ0]
      exact x_zret K hr hlocks dX0_put_22 (S, C, V, NS, NC, NV, mk, Wk) (rfl) (by unfold vPutR vPutS; rw [show (okb 5 t && okb 6 x && okb 6 y) = false by simp [*]]; exact ⟨rfl, hR⟩) (Or.inl rfl)
    · skip
      refine x_iload_n K dX0_put_14 rfl ?_
      refine caX_isIndex K (by decide) (Nat.le_of_ble_eq_true rfl) dX0_put_15 ?_
      refine x_if_neB K 23 dX0_put_18 (by decide) (fun h3 => ?_) (fun h3 => ?_)
      · skip
        obtain ⟨tn, ht, rfl⟩ := okb_of h1
        obtain ⟨xn, hx, rfl⟩ := okb_of h2
        obtain ⟨yn, hy, rfl⟩ := okb_of h3
        have hok : (okb 5 (nI tn) && okb 6 (nI xn) && okb 6 (nI yn)) = true := by rw [h1, h2, h3]; rfl
        obtain ⟨b, hbe⟩ : ∃ b, b = upd (sl a tn) (6 * xn + yn) v := ⟨_, rfl⟩
        obtain ⟨f, hfe⟩ : ∃ f, f = sl a tn := ⟨_, rfl⟩
        have hf := hR _ ht
        rw [← hfe] at hf
        have hb : ∀ c, b c = upd f (6 * xn + yn) v c := fun c => by rw [hbe, hfe]
        refine x_aload_n K dX0_put_23 rfl ?_
        refine caX_begin K (by decide) (Nat.le_of_ble_eq_true rfl) dX0_put_24 ?_
        refine x_iconst K (nI 0) dX0_put_27 (by decide) ?_
        refine x_istore K [.ref (ad 0), .int (nI tn), .int (nI xn), .int (nI yn), .int v, .int (nI 0)] dX0_put_28 (by decide) (Nat.le_of_ble_eq_true rfl) rfl ?_
        have key : ∀ (n : Nat) (i : Nat) (NS NC NV : Nat → Int32) (mk : Nat) (Wk : Nat → Int32), i + n = 6 → Mk b (6 * i) NC NV mk → NSok b i NS → XW p l e (rD 2) s m args below meth c 0 0 Q0 D A 7 (wX ad bd S C V NS NC NV mk Wk) 30 [.ref (ad 0), .int (nI tn), .int (nI xn), .int (nI yn), .int v, .int (nI i)] [] := by
          intro n
          induction n with
          | zero =>
            intro i NS NC NV mk Wk hi hM hN
            obtain rfl : i = 6 := by omega
            refine x_iload K dX0_put_30 rfl ?_
            refine x_bipush K (nI 6) dX0_put_32 (by decide) ?_
            refine x_cmpN_ge K 117 dX0_put_34 (by decide) (by omega) (by omega) (fun _ => ?_) (fun q => absurd q (by omega))
            refine x_aload_n K dX0_put_117 rfl ?_
            refine x_iload_n K dX0_put_118 rfl ?_
            refine caX_store K (by decide) ht hM hN hR (Nat.le_of_ble_eq_true rfl) dX0_put_119 (fun S C V hR => ?_)
            refine x_pop K dX0_put_122 rfl ?_
            refine x_iconst K (nI 1) dX0_put_123 (by decide) ?_
            rw [hQ0]
            exact x_zret K hr hlocks dX0_put_124 (S, C, V, NS, NC, NV, mk, Wk) (rfl) (by unfold vPutR vPutS; rw [hok, if_pos rfl, cN_nI (by omega), cN_nI (by omega), cN_nI (by omega), Nat.add_assoc, ← putm_upd (b := b) (by omega) (fun c _ => by rw [hbe])]; exact ⟨rfl, hR⟩) (Or.inr rfl)
          | succ n ih =>
            intro i NS NC NV mk Wk hi hM hN
            have hi6 : i < 6 := by omega
            refine x_iload K dX0_put_30 rfl ?_
            refine x_bipush K (nI 6) dX0_put_32 (by decide) ?_
            refine x_cmpN_ge K 117 dX0_put_34 (by decide) (by omega) (by omega) (fun q => absurd q (by omega)) (fun _ => ?_)
            refine x_aload_n K dX0_put_37 rfl ?_
            refine caX_clearWork K (by decide) (Nat.le_of_ble_eq_true rfl) dX0_put_38 (fun Wk hWz => ?_)
            refine x_aload_n K dX0_put_41 rfl ?_
            refine x_iload_n K dX0_put_42 rfl ?_
            refine x_iload K dX0_put_43 rfl ?_
            refine caX_from K (by decide) hf ht hi6 (Nat.le_of_ble_eq_true rfl) dX0_put_45 ?_
            refine x_istore K [.ref (ad 0), .int (nI tn), .int (nI xn), .int (nI yn), .int v, .int (nI i), .int (nI (36 * tn + ct f (6 * i)))] dX0_put_48 (by decide) (Nat.le_of_ble_eq_true rfl) rfl ?_
            have fin : ∀ (Wk : Nat → Int32), (∀ c, c < 6 → Wk c = f (6 * i + c)) → XW p l e (rD 2) s m args below meth c 0 0 Q0 D A 7 (wX ad bd S C V NS NC NV mk Wk) 87 [.ref (ad 0), .int (nI tn), .int (nI xn), .int (nI yn), .int v, .int (nI i)] [] := by
              intro Wk hW
              by_cases hix : i = xn
              · skip
                have hW2 : ∀ j, j < 6 → upd Wk yn v j = b (6 * i + j) := by
                  intro j hj
                  by_cases hj2 : j = yn
                  · rw [hj2, pk_us, hb, hix, pk_us]
                  · rw [pk_un hj2, hW j hj, hb, pk_un (by omega)]
                refine x_iload K dX0_put_87 rfl ?_
                refine x_iload_n K dX0_put_89 rfl ?_
                refine x_cmpN_ne K 101 dX0_put_90 (by decide) (by omega) (by omega) (fun q => absurd q (by omega)) (fun _ => ?_)
                refine x_aload_n K dX0_put_93 rfl ?_
                refine gtWk K dX0_put_94 ?_
                refine x_iload_n K dX0_put_97 rfl ?_
                refine x_iload K dX0_put_98 rfl ?_
                refine stWk K (yn) (rfl) (by omega) dX0_put_100 ?_
                refine x_aload_n K dX0_put_101 rfl ?_
                refine caX_emitWork K (by decide) (g := i) hi6 hM (hW2) (Nat.le_of_ble_eq_true rfl) dX0_put_102 (fun NC NV mk hM => ?_)
                refine x_aload_n K dX0_put_105 rfl ?_
                refine x_iload K dX0_put_106 rfl ?_
                refine caX_endRow K (by decide) hN (by omega) hM.1 (Nat.le_of_ble_eq_true rfl) dX0_put_108 (fun NS hN => ?_)
                refine x_iinc1 K [.ref (ad 0), .int (nI tn), .int (nI xn), .int (nI yn), .int v, .int (nI (i + 1))] dX0_put_111 rfl (by decide) (Nat.le_of_ble_eq_true rfl) rfl ?_
                refine x_goto K 30 dX0_put_114 (by decide) ?_
                exact ih (i + 1) NS NC NV mk _ (by omega) hM hN
              · skip
                refine x_iload K dX0_put_87 rfl ?_
                refine x_iload_n K dX0_put_89 rfl ?_
                refine x_cmpN_ne K 101 dX0_put_90 (by decide) (by omega) (by omega) (fun _ => ?_) (fun q => absurd q (by omega))
                refine x_aload_n K dX0_put_101 rfl ?_
                refine caX_emitWork K (by decide) (g := i) hi6 hM (fun j hj => by rw [hW j hj, hb, pk_un (by omega)]) (Nat.le_of_ble_eq_true rfl) dX0_put_102 (fun NC NV mk hM => ?_)
                refine x_aload_n K dX0_put_105 rfl ?_
                refine x_iload K dX0_put_106 rfl ?_
                refine caX_endRow K (by decide) hN (by omega) hM.1 (Nat.le_of_ble_eq_true rfl) dX0_put_108 (fun NS hN => ?_)
                refine x_iinc1 K [.ref (ad 0), .int (nI tn), .int (nI xn), .int (nI yn), .int v, .int (nI (i + 1))] dX0_put_111 rfl (by decide) (Nat.le_of_ble_eq_true rfl) rfl ?_
                refine x_goto K 30 dX0_put_114 (by decide) ?_
                exact ih (i + 1) NS NC NV mk _ (by omega) hM hN
            have key2 : ∀ (n2 : Nat) (j : Nat) (Wk : Nat → Int32), j ≤ 6 → 6 < j + n2 → (∀ c, c < 6 → Wk c = if c < j then f (6 * i + c) else 0) → XW p l e (rD 2) s m args below meth c 0 0 Q0 D A 7 (wX ad bd S C V NS NC NV mk Wk) 50 [.ref (ad 0), .int (nI tn), .int (nI xn), .int (nI yn), .int v, .int (nI i), .int (nI (36 * tn + ct f (6 * i + j)))] [] := by
              intro n2
              induction n2 with
              | zero =>
                intro j Wk hj hn hW
                exact absurd hn (by omega)
              | succ n2 ih2 =>
                intro j Wk hj hn hW
                have l1 := ct_row_le (f := f) hi6 hj
                have l3 := ct_row_le (f := f) hi6 (Nat.le_refl 6)
                rcases it_row hf hi6 hj with ⟨e1, zf⟩ | ⟨j1, a1, a2, a3, a4, a5, a6, a7, a8⟩
                · skip
                  refine x_iload K dX0_put_50 rfl ?_
                  refine x_aload_n K dX0_put_52 rfl ?_
                  refine x_iload_n K dX0_put_53 rfl ?_
                  refine x_iload K dX0_put_54 rfl ?_
                  refine caX_upTo K (by decide) hf ht hi6 (Nat.le_of_ble_eq_true rfl) dX0_put_56 ?_
                  refine x_cmpN_ge K 87 dX0_put_59 (by decide) (by omega) (by omega) (fun _ => ?_) (fun q => absurd q (by omega))
                  refine x_drop [.ref (ad 0), .int (nI tn), .int (nI xn), .int (nI yn), .int v, .int (nI i)] 6 rfl ?_
                  refine fin Wk (fun c hc => ?_)
                  rw [hW c hc]
                  split
                  · rfl
                  · exact (zf c (by omega) hc).symm
                · skip
                  refine x_iload K dX0_put_50 rfl ?_
                  refine x_aload_n K dX0_put_52 rfl ?_
                  refine x_iload_n K dX0_put_53 rfl ?_
                  refine x_iload K dX0_put_54 rfl ?_
                  refine caX_upTo K (by decide) hf ht hi6 (Nat.le_of_ble_eq_true rfl) dX0_put_56 ?_
                  refine x_cmpN_ge K 87 dX0_put_59 (by decide) (by omega) (by omega) (fun q => absurd q (by omega)) (fun _ => ?_)
                  refine x_aload_n K dX0_put_62 rfl ?_
                  refine gtWk K dX0_put_63 ?_
                  refine x_aload_n K dX0_put_66 rfl ?_
                  refine gtC K dX0_put_67 ?_
                  refine x_iload K dX0_put_70 rfl ?_
                  refine ldC K (36 * tn + ct f (6 * i + j)) (rfl) (by omega) (x := (nI j1)) (a6) dX0_put_72 ?_
                  refine x_aload_n K dX0_put_73 rfl ?_
                  refine gtV K dX0_put_74 ?_
                  refine x_iload K dX0_put_77 rfl ?_
                  refine ldV K (36 * tn + ct f (6 * i + j)) (rfl) (by omega) (x := (f (6 * i + j1))) (a7) dX0_put_79 ?_
                  refine stWk K (j1) (rfl) (by omega) dX0_put_80 ?_
                  refine x_iinc1 K [.ref (ad 0), .int (nI tn), .int (nI xn), .int (nI yn), .int v, .int (nI i), .int (nI (36 * tn + ct f (6 * i + j) + 1))] dX0_put_81 rfl (by decide) (Nat.le_of_ble_eq_true rfl) rfl ?_
                  refine x_goto K 50 dX0_put_84 (by decide) ?_
                  rw [show 36 * tn + ct f (6 * i + j) + 1 = 36 * tn + ct f (6 * i + (j1 + 1)) by omega]
                  refine ih2 (j1 + 1) _ (by omega) (by omega) (fun c hc => ?_)
                  rcases Nat.lt_trichotomy c j1 with hl | hl | hl
                  · rw [pk_un (by omega), hW c hc, if_pos (show c < j1 + 1 by omega)]
                    split
                    · rfl
                    · exact (a4 c (by omega) hl).symm
                  · subst hl
                    rw [pk_us, if_pos (show c < c + 1 by omega)]
                  · rw [pk_un (by omega), hW c hc, if_neg (by omega), if_neg (by omega)]
            exact key2 7 0 Wk (by omega) (by omega) (fun c hc => by rw [hWz c hc, if_neg (by omega)])
        exact key 6 0 _ NC NV 0 Wk (by omega) mk_0 ns_0
      · skip
        refine x_iconst K (nI 0) dX0_put_21 (by decide) ?_
        rw [hQ0]
        exact x_zret K hr hlocks dX0_put_22 (S, C, V, NS, NC, NV, mk, Wk) (rfl) (by unfold vPutR vPutS; rw [show (okb 5 t && okb 6 x && okb 6 y) = false by simp [*]]; exact ⟨rfl, hR⟩) (Or.inl rfl)
end
section
set_option maxRecDepth 100000
/-! SparseKernels: at, count, next, rowsProduct -/
set_option maxHeartbeats 8000000 in
theorem ctX_at (l : Launch) {D : va_G} {ad : Nat → Nat} {bd : Nat → ClassId} {S C V NS NC NV : Nat → Int32} {mk : Nat} {Wk : Nat → Int32} {a : Nat → Int32} {t x y : Int32} (hR : Rep S C V a) : CtI l yX0_at cX0_at 5 (some .int) 2 D (tyX bd) [.ref (ad 0), .int t, .int x, .int y] (wX ad bd S C V NS NC NV mk Wk) (fun r (_ : Unit) => r = vAt a t x y) (fun _ => wX ad bd S C V NS NC NV mk Wk) := by
  refine x_enterI (own := RX0) (by decide) rfl (Nat.le_of_ble_eq_true rfl) (by simp [Value.category]) ?_
  intro p e s m args below meth c A K hr hlocks
  obtain ⟨Q0, hQ0⟩ : ∃ Q0 : State → Prop, Q0 = XQi below args s D (tyX bd) A (fun r (_ : Unit) => r = vAt a t x y) (fun _ => wX ad bd S C V NS NC NV mk Wk) := ⟨_, rfl⟩
  rw [← hQ0]
  refine x_iload_n K dX0_at_0 rfl ?_
  refine caX_isSlot K (by decide) (Nat.le_of_ble_eq_true rfl) dX0_at_1 ?_
  refine x_if_eqB K 21 dX0_at_4 (by decide) (fun h1 => ?_) (fun h1 => ?_)
  · skip
    refine x_iconst K (nI 0) dX0_at_21 (by decide) ?_
    rw [hQ0]
    exact x_iret K hr hlocks dX0_at_22 () (rfl) (by unfold vAt; rw [show (okb 5 t && okb 6 x && okb 6 y) = false by simp [*]]; rfl)
  · skip
    refine x_iload_n K dX0_at_7 rfl ?_
    refine caX_isIndex K (by decide) (Nat.le_of_ble_eq_true rfl) dX0_at_8 ?_
    refine x_if_eqB K 21 dX0_at_11 (by decide) (fun h2 => ?_) (fun h2 => ?_)
    · skip
      refine x_iconst K (nI 0) dX0_at_21 (by decide) ?_
      rw [hQ0]
      exact x_iret K hr hlocks dX0_at_22 () (rfl) (by unfold vAt; rw [show (okb 5 t && okb 6 x && okb 6 y) = false by simp [*]]; rfl)
    · skip
      refine x_iload_n K dX0_at_14 rfl ?_
      refine caX_isIndex K (by decide) (Nat.le_of_ble_eq_true rfl) dX0_at_15 ?_
      refine x_if_neB K 23 dX0_at_18 (by decide) (fun h3 => ?_) (fun h3 => ?_)
      · skip
        obtain ⟨tn, ht, rfl⟩ := okb_of h1
        obtain ⟨xn, hx, rfl⟩ := okb_of h2
        obtain ⟨yn, hy, rfl⟩ := okb_of h3
        have hval : vAt a (nI tn) (nI xn) (nI yn) = sl a tn (6 * xn + yn) := by unfold vAt; rw [h1, h2, h3, Bool.and_self, Bool.and_self, if_pos rfl, cN_nI (by omega), cN_nI (by omega), cN_nI (by omega), Nat.add_assoc]; rfl
        have hf := hR _ ht
        by_cases h0 : sl a tn (6 * xn + yn) = 0
        · skip
          refine x_aload_n K dX0_at_23 rfl ?_
          refine x_iload_n K dX0_at_24 rfl ?_
          refine x_iload_n K dX0_at_25 rfl ?_
          refine x_iload_n K dX0_at_26 rfl ?_
          refine caX_find0 K (by decide) ht hx hy hf h0 (Nat.le_of_ble_eq_true rfl) dX0_at_27 ?_
          refine x_istore K [.ref (ad 0), .int (nI tn), .int (nI xn), .int (nI yn), .int ((-1))] dX0_at_30 (by decide) (Nat.le_of_ble_eq_true rfl) rfl ?_
          refine x_iload K dX0_at_32 rfl ?_
          refine x_if_ge K 41 dX0_at_34 (by decide) (fun q => absurd q (by decide)) (fun _ => ?_)
          refine x_iconst K (nI 0) dX0_at_37 (by decide) ?_
          refine x_goto K 48 dX0_at_38 (by decide) ?_
          rw [hQ0]
          exact x_iret K hr hlocks dX0_at_48 () (rfl) (by rw [hval, h0]; rfl)
        · skip
          have l1 := ct_row_le (f := sl a tn) hx (Nat.le_of_lt hy)
          refine x_aload_n K dX0_at_23 rfl ?_
          refine x_iload_n K dX0_at_24 rfl ?_
          refine x_iload_n K dX0_at_25 rfl ?_
          refine x_iload_n K dX0_at_26 rfl ?_
          refine caX_find1 K (by decide) ht hx hy hf h0 (Nat.le_of_ble_eq_true rfl) dX0_at_27 ?_
          refine x_istore K [.ref (ad 0), .int (nI tn), .int (nI xn), .int (nI yn), .int (nI (36 * tn + ct (sl a tn) (6 * xn + yn)))] dX0_at_30 (by decide) (Nat.le_of_ble_eq_true rfl) rfl ?_
          refine x_iload K dX0_at_32 rfl ?_
          refine x_if_ge K 41 dX0_at_34 (by decide) (fun _ => ?_) (fun q => absurd q (fun z => z (nI_pos' (by omega))))
          refine x_aload_n K dX0_at_41 rfl ?_
          refine gtV K dX0_at_42 ?_
          refine x_iload K dX0_at_45 rfl ?_
          refine ldV K (36 * tn + ct (sl a tn) (6 * xn + yn)) (rfl) (by have := ct_lt (f := sl a tn) (show 6 * xn + yn < 36 by omega) h0; have := ct_le (sl a tn) 36; omega) (x := (sl a tn (6 * xn + yn))) ((hf.2 _ (by omega) h0).2) dX0_at_47 ?_
          rw [hQ0]
          exact x_iret K hr hlocks dX0_at_48 () (rfl) (hval.symm)
      · skip
        refine x_iconst K (nI 0) dX0_at_21 (by decide) ?_
        rw [hQ0]
        exact x_iret K hr hlocks dX0_at_22 () (rfl) (by unfold vAt; rw [show (okb 5 t && okb 6 x && okb 6 y) = false by simp [*]]; rfl)
set_option maxHeartbeats 8000000 in
theorem ctX_count (l : Launch) {D : va_G} {ad : Nat → Nat} {bd : Nat → ClassId} {S C V NS NC NV : Nat → Int32} {mk : Nat} {Wk : Nat → Int32} {a : Nat → Int32} {t : Int32} (hR : Rep S C V a) : CtI l yX0_count cX0_count 2 (some .int) 2 D (tyX bd) [.ref (ad 0), .int t] (wX ad bd S C V NS NC NV mk Wk) (fun r (_ : Unit) => r = vCnt a t) (fun _ => wX ad bd S C V NS NC NV mk Wk) := by
  refine x_enterI (own := RX0) (by decide) rfl (Nat.le_of_ble_eq_true rfl) (by simp [Value.category]) ?_
  intro p e s m args below meth c A K hr hlocks
  refine x_iload_n K dX0_count_0 rfl ?_
  refine caX_isSlot K (by decide) (Nat.le_of_ble_eq_true rfl) dX0_count_1 ?_
  refine x_if_eqB K 22 dX0_count_4 (by decide) (fun h1 => ?_) (fun h1 => ?_)
  · skip
    refine x_iconst K (-1) dX0_count_22 (by decide) ?_
    exact x_iret K hr hlocks dX0_count_23 () (rfl) (by unfold vCnt; rw [h1]; rfl)
  · skip
    obtain ⟨tn, ht, rfl⟩ := okb_of h1
    refine x_aload_n K dX0_count_7 rfl ?_
    refine gtS K dX0_count_8 ?_
    refine x_iload_n K dX0_count_11 rfl ?_
    refine x_bipush K (nI 7) dX0_count_12 (by decide) ?_
    refine x_imulN K dX0_count_14 ?_
    refine x_bipush K (nI 6) dX0_count_15 (by decide) ?_
    refine x_iaddN K dX0_count_17 ?_
    refine ldS K (7 * tn + 6) (by omega) (by omega) (x := (nI (ct (sl a tn) 36))) ((hR _ ht).1 6 (Nat.le_refl 6)) dX0_count_18 ?_
    refine x_goto K 23 dX0_count_19 (by decide) ?_
    exact x_iret K hr hlocks dX0_count_23 () (rfl) (by unfold vCnt; rw [h1, if_pos rfl, cN_nI (by omega)])
set_option maxHeartbeats 8000000 in
theorem ctX_next (l : Launch) {D : va_G} {ad : Nat → Nat} {bd : Nat → ClassId} {S C V NS NC NV : Nat → Int32} {mk : Nat} {Wk : Nat → Int32} {a : Nat → Int32} {t x y : Int32} (hR : Rep S C V a) : CtI l yX0_next cX0_next 5 (some .int) 2 D (tyX bd) [.ref (ad 0), .int t, .int x, .int y] (wX ad bd S C V NS NC NV mk Wk) (fun r (_ : Unit) => r = vNxt a t x y) (fun _ => wX ad bd S C V NS NC NV mk Wk) := by
  refine x_enterI (own := RX0) (by decide) rfl (Nat.le_of_ble_eq_true rfl) (by simp [Value.category]) ?_
  intro p e s m args below meth c A K hr hlocks
  obtain ⟨Q0, hQ0⟩ : ∃ Q0 : State → Prop, Q0 = XQi below args s D (tyX bd) A (fun r (_ : Unit) => r = vNxt a t x y) (fun _ => wX ad bd S C V NS NC NV mk Wk) := ⟨_, rfl⟩
  rw [← hQ0]
  refine x_iload_n K dX0_next_0 rfl ?_
  refine caX_isSlot K (by decide) (Nat.le_of_ble_eq_true rfl) dX0_next_1 ?_
  refine x_if_eqB K 14 dX0_next_4 (by decide) (fun h1 => ?_) (fun h1 => ?_)
  · skip
    refine x_iconst K (-1) dX0_next_14 (by decide) ?_
    rw [hQ0]
    exact x_iret K hr hlocks dX0_next_15 () (rfl) (by unfold vNxt; rw [show (okb 5 t && okb 6 x) = false by simp [*]]; rfl)
  · skip
    refine x_iload_n K dX0_next_7 rfl ?_
    refine caX_isIndex K (by decide) (Nat.le_of_ble_eq_true rfl) dX0_next_8 ?_
    refine x_if_neB K 16 dX0_next_11 (by decide) (fun h2 => ?_) (fun h2 => ?_)
    · skip
      obtain ⟨tn, ht, rfl⟩ := okb_of h1
      obtain ⟨xn, hx, rfl⟩ := okb_of h2
      obtain ⟨f, hfe⟩ : ∃ f, f = sl a tn := ⟨_, rfl⟩
      have hf := hR _ ht
      rw [← hfe] at hf
      have hval : vNxt a (nI tn) (nI xn) y = nx (fun k => f (6 * xn + k)) y 6 0 := by unfold vNxt; rw [h1, h2, Bool.and_self, if_pos rfl, cN_nI (by omega), cN_nI (by omega), hfe]
      refine x_aload_n K dX0_next_16 rfl ?_
      refine x_iload_n K dX0_next_17 rfl ?_
      refine x_iload_n K dX0_next_18 rfl ?_
      refine caX_from K (by decide) hf ht hx (Nat.le_of_ble_eq_true rfl) dX0_next_19 ?_
      refine x_istore K [.ref (ad 0), .int (nI tn), .int (nI xn), .int y, .int (nI (36 * tn + ct f (6 * xn)))] dX0_next_22 (by decide) (Nat.le_of_ble_eq_true rfl) rfl ?_
      have key : ∀ (n : Nat) (j : Nat), j ≤ 6 → 6 < j + n → (∀ d, d < j → ¬ (y ≤ nI d ∧ f (6 * xn + d) ≠ 0)) → XW p l e (rD 2) s m args below meth c 0 0 Q0 D A 5 (wX ad bd S C V NS NC NV mk Wk) 24 [.ref (ad 0), .int (nI tn), .int (nI xn), .int y, .int (nI (36 * tn + ct f (6 * xn + j)))] [] := by
        intro n
        induction n with
        | zero =>
          intro j hj hn hd
          exact absurd hn (by omega)
        | succ n ih =>
          intro j hj hn hd
          have l1 := ct_row_le (f := f) hx hj
          have l3 := ct_row_le (f := f) hx (Nat.le_refl 6)
          rcases it_row hf hx hj with ⟨e1, zf⟩ | ⟨j1, a1, a2, a3, a4, a5, a6, a7, a8⟩
          · skip
            refine x_iload K dX0_next_24 rfl ?_
            refine x_aload_n K dX0_next_26 rfl ?_
            refine x_iload_n K dX0_next_27 rfl ?_
            refine x_iload_n K dX0_next_28 rfl ?_
            refine caX_upTo K (by decide) hf ht hx (Nat.le_of_ble_eq_true rfl) dX0_next_29 ?_
            refine x_cmpN_ge K 60 dX0_next_32 (by decide) (by omega) (by omega) (fun _ => ?_) (fun q => absurd q (by omega))
            refine x_iconst K (-1) dX0_next_60 (by decide) ?_
            rw [hQ0]
            exact x_iret K hr hlocks dX0_next_61 () (rfl) (by
                          rw [hval]
                          refine (nx_miss 6 0 (fun d h1 h2 => ?_)).symm
                          by_cases hdj : d < j
                          · exact hd d hdj
                          · exact fun z => z.2 (zf d (by omega) (by omega)))
          · skip
            have hd2 : ∀ d, d < j1 → ¬ (y ≤ nI d ∧ f (6 * xn + d) ≠ 0) := by
              intro d h1
              by_cases hdj : d < j
              · exact hd d hdj
              · exact fun z => z.2 (a4 d (by omega) h1)
            refine x_iload K dX0_next_24 rfl ?_
            refine x_aload_n K dX0_next_26 rfl ?_
            refine x_iload_n K dX0_next_27 rfl ?_
            refine x_iload_n K dX0_next_28 rfl ?_
            refine caX_upTo K (by decide) hf ht hx (Nat.le_of_ble_eq_true rfl) dX0_next_29 ?_
            refine x_cmpN_ge K 60 dX0_next_32 (by decide) (by omega) (by omega) (fun q => absurd q (by omega)) (fun _ => ?_)
            refine x_aload_n K dX0_next_35 rfl ?_
            refine gtC K dX0_next_36 ?_
            refine x_iload K dX0_next_39 rfl ?_
            refine ldC K (36 * tn + ct f (6 * xn + j)) (rfl) (by omega) (x := (nI j1)) (a6) dX0_next_41 ?_
            refine x_iload_n K dX0_next_42 rfl ?_
            refine x_cmp_lt K 54 dX0_next_43 (by decide) (fun hlt => ?_) (fun hlt => ?_)
            · skip
              refine x_iinc1 K [.ref (ad 0), .int (nI tn), .int (nI xn), .int y, .int (nI (36 * tn + ct f (6 * xn + j) + 1))] dX0_next_54 rfl (by decide) (Nat.le_of_ble_eq_true rfl) rfl ?_
              refine x_goto K 24 dX0_next_57 (by decide) ?_
              rw [show 36 * tn + ct f (6 * xn + j) + 1 = 36 * tn + ct f (6 * xn + (j1 + 1)) by omega]
              refine ih (j1 + 1) (by omega) (by omega) (fun d h1 => ?_)
              by_cases hdj : d = j1
              · subst hdj
                exact fun z => Int32.not_lt.mpr z.1 hlt
              · exact hd2 d (by omega)
            · skip
              refine x_aload_n K dX0_next_46 rfl ?_
              refine gtC K dX0_next_47 ?_
              refine x_iload K dX0_next_50 rfl ?_
              refine ldC K (36 * tn + ct f (6 * xn + j)) (rfl) (by omega) (x := (nI j1)) (a6) dX0_next_52 ?_
              rw [hQ0]
              exact x_iret K hr hlocks dX0_next_53 () (rfl) (by rw [hval]; exact (nx_hit (k := j1) (Int32.not_lt.mp hlt) a3 6 0 (Nat.zero_le _) (by omega) (fun d _ h2 => hd2 d h2)).symm)
      exact key 7 0 (by omega) (by omega) (fun d h => absurd h (by omega))
    · skip
      refine x_iconst K (-1) dX0_next_14 (by decide) ?_
      rw [hQ0]
      exact x_iret K hr hlocks dX0_next_15 () (rfl) (by unfold vNxt; rw [show (okb 5 t && okb 6 x) = false by simp [*]]; rfl)
set_option maxHeartbeats 8000000 in
theorem ctX_rowsProduct (l : Launch) {D : va_G} {ad : Nat → Nat} {bd : Nat → ClassId} {S C V NS NC NV : Nat → Int32} {mk : Nat} {Wk : Nat → Int32} {a : Nat → Int32} {t x q y : Int32} (hR : Rep S C V a) : CtI l yX0_rowsProduct cX0_rowsProduct 8 (some .int) 2 D (tyX bd) [.ref (ad 0), .int t, .int x, .int q, .int y] (wX ad bd S C V NS NC NV mk Wk) (fun r (_ : Unit) => r = vRow a t x q y) (fun _ => wX ad bd S C V NS NC NV mk Wk) := by
  refine x_enterI (own := RX0) (by decide) rfl (Nat.le_of_ble_eq_true rfl) (by simp [Value.category]) ?_
  intro p e s m args below meth c A K hr hlocks
  obtain ⟨Q0, hQ0⟩ : ∃ Q0 : State → Prop, Q0 = XQi below args s D (tyX bd) A (fun r (_ : Unit) => r = vRow a t x q y) (fun _ => wX ad bd S C V NS NC NV mk Wk) := ⟨_, rfl⟩
  rw [← hQ0]
  refine x_iload_n K dX0_rowsProduct_0 rfl ?_
  refine caX_isSlot K (by decide) (Nat.le_of_ble_eq_true rfl) dX0_rowsProduct_1 ?_
  refine x_if_eqB K 29 dX0_rowsProduct_4 (by decide) (fun h1 => ?_) (fun h1 => ?_)
  · skip
    refine x_iconst K (nI 0) dX0_rowsProduct_29 (by decide) ?_
    rw [hQ0]
    exact x_iret K hr hlocks dX0_rowsProduct_30 () (rfl) (by unfold vRow; rw [show (okb 5 t && okb 6 x && okb 5 q && okb 6 y) = false by simp [*]]; rfl)
  · skip
    refine x_iload_n K dX0_rowsProduct_7 rfl ?_
    refine caX_isIndex K (by decide) (Nat.le_of_ble_eq_true rfl) dX0_rowsProduct_8 ?_
    refine x_if_eqB K 29 dX0_rowsProduct_11 (by decide) (fun h2 => ?_) (fun h2 => ?_)
    · skip
      refine x_iconst K (nI 0) dX0_rowsProduct_29 (by decide) ?_
      rw [hQ0]
      exact x_iret K hr hlocks dX0_rowsProduct_30 () (rfl) (by unfold vRow; rw [show (okb 5 t && okb 6 x && okb 5 q && okb 6 y) = false by simp [*]]; rfl)
    · skip
      refine x_iload_n K dX0_rowsProduct_14 rfl ?_
      refine caX_isSlot K (by decide) (Nat.le_of_ble_eq_true rfl) dX0_rowsProduct_15 ?_
      refine x_if_eqB K 29 dX0_rowsProduct_18 (by decide) (fun h3 => ?_) (fun h3 => ?_)
      · skip
        refine x_iconst K (nI 0) dX0_rowsProduct_29 (by decide) ?_
        rw [hQ0]
        exact x_iret K hr hlocks dX0_rowsProduct_30 () (rfl) (by unfold vRow; rw [show (okb 5 t && okb 6 x && okb 5 q && okb 6 y) = false by simp [*]]; rfl)
      · skip
        refine x_iload K dX0_rowsProduct_21 rfl ?_
        refine caX_isIndex K (by decide) (Nat.le_of_ble_eq_true rfl) dX0_rowsProduct_23 ?_
        refine x_if_neB K 31 dX0_rowsProduct_26 (by decide) (fun h4 => ?_) (fun h4 => ?_)
        · skip
          obtain ⟨tn, ht, rfl⟩ := okb_of h1
          obtain ⟨xn, hx, rfl⟩ := okb_of h2
          obtain ⟨qn, hq, rfl⟩ := okb_of h3
          obtain ⟨yn, hy, rfl⟩ := okb_of h4
          obtain ⟨f, hfe⟩ : ∃ f, f = sl a tn := ⟨_, rfl⟩
          have hf := hR _ ht
          rw [← hfe] at hf
          obtain ⟨g, hge⟩ : ∃ g, g = sl a qn := ⟨_, rfl⟩
          have hg := hR _ hq
          rw [← hge] at hg
          have hval : vRow a (nI tn) (nI xn) (nI qn) (nI yn) = sm (fun k => f (6 * xn + k) * g (6 * yn + k)) 6 := by unfold vRow; rw [h1, h2, h3, h4, Bool.and_self, Bool.and_self, Bool.and_self, if_pos rfl, cN_nI (by omega), cN_nI (by omega), cN_nI (by omega), cN_nI (by omega), hfe, hge]
          obtain ⟨h, hh⟩ : ∃ h : Nat → Int32, h = fun k => f (6 * xn + k) * g (6 * yn + k) := ⟨_, rfl⟩
          rw [← hh] at hval
          have hk : ∀ k, h k = f (6 * xn + k) * g (6 * yn + k) := fun k => by rw [hh]
          refine x_iconst K (nI 0) dX0_rowsProduct_31 (by decide) ?_
          refine x_istore K [.ref (ad 0), .int (nI tn), .int (nI xn), .int (nI qn), .int (nI yn), .int (nI 0)] dX0_rowsProduct_32 (by decide) (Nat.le_of_ble_eq_true rfl) rfl ?_
          refine x_aload_n K dX0_rowsProduct_34 rfl ?_
          refine x_iload_n K dX0_rowsProduct_35 rfl ?_
          refine x_iload K dX0_rowsProduct_36 rfl ?_
          refine caX_from K (by decide) hg hq hy (Nat.le_of_ble_eq_true rfl) dX0_rowsProduct_38 ?_
          refine x_istore K [.ref (ad 0), .int (nI tn), .int (nI xn), .int (nI qn), .int (nI yn), .int (nI 0), .int (nI (36 * qn + ct g (6 * yn)))] dX0_rowsProduct_41 (by decide) (Nat.le_of_ble_eq_true rfl) rfl ?_
          refine x_aload_n K dX0_rowsProduct_43 rfl ?_
          refine x_iload_n K dX0_rowsProduct_44 rfl ?_
          refine x_iload_n K dX0_rowsProduct_45 rfl ?_
          refine caX_from K (by decide) hf ht hx (Nat.le_of_ble_eq_true rfl) dX0_rowsProduct_46 ?_
          refine x_istore K [.ref (ad 0), .int (nI tn), .int (nI xn), .int (nI qn), .int (nI yn), .int (nI 0), .int (nI (36 * qn + ct g (6 * yn))), .int (nI (36 * tn + ct f (6 * xn)))] dX0_rowsProduct_49 (by decide) (Nat.le_of_ble_eq_true rfl) rfl ?_
          have key : ∀ (n : Nat) (j w : Nat) (sv : Int32), j ≤ 6 → 6 < j + n → w ≤ j → sv = sm h j → XW p l e (rD 2) s m args below meth c 0 0 Q0 D A 8 (wX ad bd S C V NS NC NV mk Wk) 51 [.ref (ad 0), .int (nI tn), .int (nI xn), .int (nI qn), .int (nI yn), .int sv, .int (nI (36 * qn + ct g (6 * yn + w))), .int (nI (36 * tn + ct f (6 * xn + j)))] [] := by
            intro n
            induction n with
            | zero =>
              intro j w sv hj hn hw hsv
              exact absurd hn (by omega)
            | succ n ih =>
              intro j w sv hj hn hw hsv
              have l1 := ct_row_le (f := f) hx hj
              have l3 := ct_row_le (f := f) hx (Nat.le_refl 6)
              have m3 := ct_row_le (f := g) hy (Nat.le_refl 6)
              rcases it_row hf hx hj with ⟨e1, zf⟩ | ⟨j1, a1, a2, a3, a4, a5, a6, a7, a8⟩
              · skip
                refine x_iload K dX0_rowsProduct_51 rfl ?_
                refine x_aload_n K dX0_rowsProduct_53 rfl ?_
                refine x_iload_n K dX0_rowsProduct_54 rfl ?_
                refine x_iload_n K dX0_rowsProduct_55 rfl ?_
                refine caX_upTo K (by decide) hf ht hx (Nat.le_of_ble_eq_true rfl) dX0_rowsProduct_56 ?_
                refine x_cmpN_ge K 152 dX0_rowsProduct_59 (by decide) (by omega) (by omega) (fun _ => ?_) (fun q => absurd q (by omega))
                refine x_iload K dX0_rowsProduct_152 rfl ?_
                rw [hQ0]
                exact x_iret K hr hlocks dX0_rowsProduct_154 () (rfl) (by rw [hval, hsv]; exact (sm_run hj (fun k h1 h2 => by rw [hk, zf k h1 h2, Int32.zero_mul])).symm)
              · skip
                have hs1 : sv = sm h j1 := by rw [hsv]; exact (sm_run a1 (fun k h1 h2 => by rw [hk, a4 k h1 h2, Int32.zero_mul])).symm
                refine x_iload K dX0_rowsProduct_51 rfl ?_
                refine x_aload_n K dX0_rowsProduct_53 rfl ?_
                refine x_iload_n K dX0_rowsProduct_54 rfl ?_
                refine x_iload_n K dX0_rowsProduct_55 rfl ?_
                refine caX_upTo K (by decide) hf ht hx (Nat.le_of_ble_eq_true rfl) dX0_rowsProduct_56 ?_
                refine x_cmpN_ge K 152 dX0_rowsProduct_59 (by decide) (by omega) (by omega) (fun q => absurd q (by omega)) (fun _ => ?_)
                have key2 : ∀ (n2 : Nat) (w : Nat), w ≤ j1 → 6 < w + n2 → XW p l e (rD 2) s m args below meth c 0 0 Q0 D A 8 (wX ad bd S C V NS NC NV mk Wk) 62 [.ref (ad 0), .int (nI tn), .int (nI xn), .int (nI qn), .int (nI yn), .int sv, .int (nI (36 * qn + ct g (6 * yn + w))), .int (nI (36 * tn + ct f (6 * xn + j)))] [] := by
                  intro n2
                  induction n2 with
                  | zero =>
                    intro w hw2 hn2
                    exact absurd hn2 (by omega)
                  | succ n2 ih2 =>
                    intro w hw2 hn2
                    have m1 := ct_row_le (f := g) hy (show w ≤ 6 by omega)
                    rcases it_row hg hy (show w ≤ 6 by omega) with ⟨e2, zg⟩ | ⟨j2, b1, b2, b3, b4, b5, b6, b7, b8⟩
                    · skip
                      refine x_iload K dX0_rowsProduct_62 rfl ?_
                      refine x_aload_n K dX0_rowsProduct_64 rfl ?_
                      refine x_iload_n K dX0_rowsProduct_65 rfl ?_
                      refine x_iload K dX0_rowsProduct_66 rfl ?_
                      refine caX_upTo K (by decide) hg hq hy (Nat.le_of_ble_eq_true rfl) dX0_rowsProduct_68 ?_
                      refine x_cmpN_ge K 97 dX0_rowsProduct_71 (by decide) (by omega) (by omega) (fun _ => ?_) (fun q => absurd q (by omega))
                      refine x_iload K dX0_rowsProduct_97 rfl ?_
                      refine x_aload_n K dX0_rowsProduct_99 rfl ?_
                      refine x_iload_n K dX0_rowsProduct_100 rfl ?_
                      refine x_iload K dX0_rowsProduct_101 rfl ?_
                      refine caX_upTo K (by decide) hg hq hy (Nat.le_of_ble_eq_true rfl) dX0_rowsProduct_103 ?_
                      refine x_cmpN_ge K 146 dX0_rowsProduct_106 (by decide) (by omega) (by omega) (fun _ => ?_) (fun q => absurd q (by omega))
                      refine x_iinc1 K [.ref (ad 0), .int (nI tn), .int (nI xn), .int (nI qn), .int (nI yn), .int sv, .int (nI (36 * qn + ct g (6 * yn + w))), .int (nI (36 * tn + ct f (6 * xn + j) + 1))] dX0_rowsProduct_146 rfl (by decide) (Nat.le_of_ble_eq_true rfl) rfl ?_
                      refine x_goto K 51 dX0_rowsProduct_149 (by decide) ?_
                      rw [show 36 * tn + ct f (6 * xn + j) + 1 = 36 * tn + ct f (6 * xn + (j1 + 1)) by omega]
                      exact ih (j1 + 1) w sv (by omega) (by omega) (by omega) (by rw [sm_s, hk, zg j1 (by omega) (by omega), Int32.mul_zero, Int32.add_zero]; exact hs1)
                    · skip
                      rcases Nat.lt_trichotomy j2 j1 with hl | hl | hl
                      · skip
                        refine x_iload K dX0_rowsProduct_62 rfl ?_
                        refine x_aload_n K dX0_rowsProduct_64 rfl ?_
                        refine x_iload_n K dX0_rowsProduct_65 rfl ?_
                        refine x_iload K dX0_rowsProduct_66 rfl ?_
                        refine caX_upTo K (by decide) hg hq hy (Nat.le_of_ble_eq_true rfl) dX0_rowsProduct_68 ?_
                        refine x_cmpN_ge K 97 dX0_rowsProduct_71 (by decide) (by omega) (by omega) (fun q => absurd q (by omega)) (fun _ => ?_)
                        refine x_aload_n K dX0_rowsProduct_74 rfl ?_
                        refine gtC K dX0_rowsProduct_75 ?_
                        refine x_iload K dX0_rowsProduct_78 rfl ?_
                        refine ldC K (36 * qn + ct g (6 * yn + w)) (rfl) (by omega) (x := (nI j2)) (b6) dX0_rowsProduct_80 ?_
                        refine x_aload_n K dX0_rowsProduct_81 rfl ?_
                        refine gtC K dX0_rowsProduct_82 ?_
                        refine x_iload K dX0_rowsProduct_85 rfl ?_
                        refine ldC K (36 * tn + ct f (6 * xn + j)) (rfl) (by omega) (x := (nI j1)) (a6) dX0_rowsProduct_87 ?_
                        refine x_cmpN_ge K 97 dX0_rowsProduct_88 (by decide) (by omega) (by omega) (fun q => absurd q (by omega)) (fun _ => ?_)
                        refine x_iinc1 K [.ref (ad 0), .int (nI tn), .int (nI xn), .int (nI qn), .int (nI yn), .int sv, .int (nI (36 * qn + ct g (6 * yn + w) + 1)), .int (nI (36 * tn + ct f (6 * xn + j)))] dX0_rowsProduct_91 rfl (by decide) (Nat.le_of_ble_eq_true rfl) rfl ?_
                        refine x_goto K 62 dX0_rowsProduct_94 (by decide) ?_
                        rw [show 36 * qn + ct g (6 * yn + w) + 1 = 36 * qn + ct g (6 * yn + (j2 + 1)) by omega]
                        exact ih2 (j2 + 1) (by omega) (by omega)
                      · skip
                        subst hl
                        refine x_iload K dX0_rowsProduct_62 rfl ?_
                        refine x_aload_n K dX0_rowsProduct_64 rfl ?_
                        refine x_iload_n K dX0_rowsProduct_65 rfl ?_
                        refine x_iload K dX0_rowsProduct_66 rfl ?_
                        refine caX_upTo K (by decide) hg hq hy (Nat.le_of_ble_eq_true rfl) dX0_rowsProduct_68 ?_
                        refine x_cmpN_ge K 97 dX0_rowsProduct_71 (by decide) (by omega) (by omega) (fun q => absurd q (by omega)) (fun _ => ?_)
                        refine x_aload_n K dX0_rowsProduct_74 rfl ?_
                        refine gtC K dX0_rowsProduct_75 ?_
                        refine x_iload K dX0_rowsProduct_78 rfl ?_
                        refine ldC K (36 * qn + ct g (6 * yn + w)) (rfl) (by omega) (x := (nI j2)) (b6) dX0_rowsProduct_80 ?_
                        refine x_aload_n K dX0_rowsProduct_81 rfl ?_
                        refine gtC K dX0_rowsProduct_82 ?_
                        refine x_iload K dX0_rowsProduct_85 rfl ?_
                        refine ldC K (36 * tn + ct f (6 * xn + j)) (rfl) (by omega) (x := (nI j2)) (a6) dX0_rowsProduct_87 ?_
                        refine x_cmpN_ge K 97 dX0_rowsProduct_88 (by decide) (by omega) (by omega) (fun _ => ?_) (fun q => absurd q (by omega))
                        refine x_iload K dX0_rowsProduct_97 rfl ?_
                        refine x_aload_n K dX0_rowsProduct_99 rfl ?_
                        refine x_iload_n K dX0_rowsProduct_100 rfl ?_
                        refine x_iload K dX0_rowsProduct_101 rfl ?_
                        refine caX_upTo K (by decide) hg hq hy (Nat.le_of_ble_eq_true rfl) dX0_rowsProduct_103 ?_
                        refine x_cmpN_ge K 146 dX0_rowsProduct_106 (by decide) (by omega) (by omega) (fun q => absurd q (by omega)) (fun _ => ?_)
                        refine x_aload_n K dX0_rowsProduct_109 rfl ?_
                        refine gtC K dX0_rowsProduct_110 ?_
                        refine x_iload K dX0_rowsProduct_113 rfl ?_
                        refine ldC K (36 * qn + ct g (6 * yn + w)) (rfl) (by omega) (x := (nI j2)) (b6) dX0_rowsProduct_115 ?_
                        refine x_aload_n K dX0_rowsProduct_116 rfl ?_
                        refine gtC K dX0_rowsProduct_117 ?_
                        refine x_iload K dX0_rowsProduct_120 rfl ?_
                        refine ldC K (36 * tn + ct f (6 * xn + j)) (rfl) (by omega) (x := (nI j2)) (a6) dX0_rowsProduct_122 ?_
                        refine x_cmpN_ne K 146 dX0_rowsProduct_123 (by decide) (by omega) (by omega) (fun q => absurd q (by omega)) (fun _ => ?_)
                        refine x_iload K dX0_rowsProduct_126 rfl ?_
                        refine x_aload_n K dX0_rowsProduct_128 rfl ?_
                        refine gtV K dX0_rowsProduct_129 ?_
                        refine x_iload K dX0_rowsProduct_132 rfl ?_
                        refine ldV K (36 * tn + ct f (6 * xn + j)) (rfl) (by omega) (x := (f (6 * xn + j2))) (a7) dX0_rowsProduct_134 ?_
                        refine x_aload_n K dX0_rowsProduct_135 rfl ?_
                        refine gtV K dX0_rowsProduct_136 ?_
                        refine x_iload K dX0_rowsProduct_139 rfl ?_
                        refine ldV K (36 * qn + ct g (6 * yn + w)) (rfl) (by omega) (x := (g (6 * yn + j2))) (b7) dX0_rowsProduct_141 ?_
                        refine x_imul K dX0_rowsProduct_142 ?_
                        refine x_iadd K dX0_rowsProduct_143 ?_
                        refine x_istore K [.ref (ad 0), .int (nI tn), .int (nI xn), .int (nI qn), .int (nI yn), .int (sv + ((((f (6 * xn + j2))) * ((g (6 * yn + j2)))))), .int (nI (36 * qn + ct g (6 * yn + w))), .int (nI (36 * tn + ct f (6 * xn + j)))] dX0_rowsProduct_144 (by decide) (Nat.le_of_ble_eq_true rfl) rfl ?_
                        refine x_iinc1 K [.ref (ad 0), .int (nI tn), .int (nI xn), .int (nI qn), .int (nI yn), .int (sv + ((((f (6 * xn + j2))) * ((g (6 * yn + j2)))))), .int (nI (36 * qn + ct g (6 * yn + w))), .int (nI (36 * tn + ct f (6 * xn + j) + 1))] dX0_rowsProduct_146 rfl (by decide) (Nat.le_of_ble_eq_true rfl) rfl ?_
                        refine x_goto K 51 dX0_rowsProduct_149 (by decide) ?_
                        rw [show 36 * tn + ct f (6 * xn + j) + 1 = 36 * tn + ct f (6 * xn + (j2 + 1)) by omega]
                        exact ih (j2 + 1) w _ (by omega) (by omega) (by omega) (by rw [sm_s, hk, hs1])
                      · skip
                        refine x_iload K dX0_rowsProduct_62 rfl ?_
                        refine x_aload_n K dX0_rowsProduct_64 rfl ?_
                        refine x_iload_n K dX0_rowsProduct_65 rfl ?_
                        refine x_iload K dX0_rowsProduct_66 rfl ?_
                        refine caX_upTo K (by decide) hg hq hy (Nat.le_of_ble_eq_true rfl) dX0_rowsProduct_68 ?_
                        refine x_cmpN_ge K 97 dX0_rowsProduct_71 (by decide) (by omega) (by omega) (fun q => absurd q (by omega)) (fun _ => ?_)
                        refine x_aload_n K dX0_rowsProduct_74 rfl ?_
                        refine gtC K dX0_rowsProduct_75 ?_
                        refine x_iload K dX0_rowsProduct_78 rfl ?_
                        refine ldC K (36 * qn + ct g (6 * yn + w)) (rfl) (by omega) (x := (nI j2)) (b6) dX0_rowsProduct_80 ?_
                        refine x_aload_n K dX0_rowsProduct_81 rfl ?_
                        refine gtC K dX0_rowsProduct_82 ?_
                        refine x_iload K dX0_rowsProduct_85 rfl ?_
                        refine ldC K (36 * tn + ct f (6 * xn + j)) (rfl) (by omega) (x := (nI j1)) (a6) dX0_rowsProduct_87 ?_
                        refine x_cmpN_ge K 97 dX0_rowsProduct_88 (by decide) (by omega) (by omega) (fun _ => ?_) (fun q => absurd q (by omega))
                        refine x_iload K dX0_rowsProduct_97 rfl ?_
                        refine x_aload_n K dX0_rowsProduct_99 rfl ?_
                        refine x_iload_n K dX0_rowsProduct_100 rfl ?_
                        refine x_iload K dX0_rowsProduct_101 rfl ?_
                        refine caX_upTo K (by decide) hg hq hy (Nat.le_of_ble_eq_true rfl) dX0_rowsProduct_103 ?_
                        refine x_cmpN_ge K 146 dX0_rowsProduct_106 (by decide) (by omega) (by omega) (fun q => absurd q (by omega)) (fun _ => ?_)
                        refine x_aload_n K dX0_rowsProduct_109 rfl ?_
                        refine gtC K dX0_rowsProduct_110 ?_
                        refine x_iload K dX0_rowsProduct_113 rfl ?_
                        refine ldC K (36 * qn + ct g (6 * yn + w)) (rfl) (by omega) (x := (nI j2)) (b6) dX0_rowsProduct_115 ?_
                        refine x_aload_n K dX0_rowsProduct_116 rfl ?_
                        refine gtC K dX0_rowsProduct_117 ?_
                        refine x_iload K dX0_rowsProduct_120 rfl ?_
                        refine ldC K (36 * tn + ct f (6 * xn + j)) (rfl) (by omega) (x := (nI j1)) (a6) dX0_rowsProduct_122 ?_
                        refine x_cmpN_ne K 146 dX0_rowsProduct_123 (by decide) (by omega) (by omega) (fun _ => ?_) (fun q => absurd q (by omega))
                        refine x_iinc1 K [.ref (ad 0), .int (nI tn), .int (nI xn), .int (nI qn), .int (nI yn), .int sv, .int (nI (36 * qn + ct g (6 * yn + w))), .int (nI (36 * tn + ct f (6 * xn + j) + 1))] dX0_rowsProduct_146 rfl (by decide) (Nat.le_of_ble_eq_true rfl) rfl ?_
                        refine x_goto K 51 dX0_rowsProduct_149 (by decide) ?_
                        rw [show 36 * tn + ct f (6 * xn + j) + 1 = 36 * tn + ct f (6 * xn + (j1 + 1)) by omega]
                        exact ih (j1 + 1) w sv (by omega) (by omega) (by omega) (by rw [sm_s, hk, b4 j1 (by omega) (by omega), Int32.mul_zero, Int32.add_zero]; exact hs1)
                exact key2 7 w (by omega) (by omega)
          exact key 7 0 0 _ (by omega) (by omega) (by omega) rfl
        · skip
          refine x_iconst K (nI 0) dX0_rowsProduct_29 (by decide) ?_
          rw [hQ0]
          exact x_iret K hr hlocks dX0_rowsProduct_30 () (rfl) (by unfold vRow; rw [show (okb 5 t && okb 6 x && okb 5 q && okb 6 y) = false by simp [*]]; rfl)
end
section
set_option maxRecDepth 100000
/-! SparseKernels: sum, same, symmetric -/
/-- the sum over all places in order, of those that count -/
theorem sm_0 (f : Nat → Int32) {i : Nat} (hi : i < 6) : sm (fun q => if q / 6 = i then f q else 0) 36 = sm (fun k => f (6 * i + k)) 6 := by
  rcases (show i = 0 ∨ i = 1 ∨ i = 2 ∨ i = 3 ∨ i = 4 ∨ i = 5 by omega) with rfl | rfl | rfl | rfl | rfl | rfl <;> simp [sm]
theorem sm_1 (f : Nat → Int32) {i : Nat} (hi : i < 6) : sm (fun q => if q % 6 = i then f q else 0) 36 = sm (fun k => f (6 * k + i)) 6 := by
  rcases (show i = 0 ∨ i = 1 ∨ i = 2 ∨ i = 3 ∨ i = 4 ∨ i = 5 by omega) with rfl | rfl | rfl | rfl | rfl | rfl <;> simp [sm]
theorem sm_2 (f : Nat → Int32) : sm (fun q => if q % 6 = q / 6 then f q else 0) 36 = sm (fun k => f (6 * k + k)) 6 := by
  simp [sm]
set_option maxHeartbeats 8000000 in
theorem ctX_sum (l : Launch) {D : va_G} {ad : Nat → Nat} {bd : Nat → ClassId} {S C V NS NC NV : Nat → Int32} {mk : Nat} {Wk : Nat → Int32} {a : Nat → Int32} {t x y : Int32} (hR : Rep S C V a) : CtI l yX0_sum cX0_sum 8 (some .int) 2 D (tyX bd) [.ref (ad 0), .int t, .int x, .int y] (wX ad bd S C V NS NC NV mk Wk) (fun r (_ : Unit) => r = vSum a t x y) (fun _ => wX ad bd S C V NS NC NV mk Wk) := by
  refine x_enterI (own := RX0) (by decide) rfl (Nat.le_of_ble_eq_true rfl) (by simp [Value.category]) ?_
  intro p e s m args below meth c A K hr hlocks
  obtain ⟨Q0, hQ0⟩ : ∃ Q0 : State → Prop, Q0 = XQi below args s D (tyX bd) A (fun r (_ : Unit) => r = vSum a t x y) (fun _ => wX ad bd S C V NS NC NV mk Wk) := ⟨_, rfl⟩
  rw [← hQ0]
  refine x_iload_n K dX0_sum_0 rfl ?_
  refine caX_isSlot K (by decide) (Nat.le_of_ble_eq_true rfl) dX0_sum_1 ?_
  refine x_if_eqB K 28 dX0_sum_4 (by decide) (fun h1 => ?_) (fun h1 => ?_)
  · skip
    refine x_iconst K (nI 0) dX0_sum_28 (by decide) ?_
    rw [hQ0]
    exact x_iret K hr hlocks dX0_sum_29 () (rfl) (by unfold vSum; rw [show okSum t x y = false by unfold okSum; rw [h1]; rfl]; rfl)
  · skip
    refine x_iload_n K dX0_sum_7 rfl ?_
    refine x_if_lt K 28 dX0_sum_8 (by decide) (fun h2 => ?_) (fun h2 => ?_)
    · skip
      refine x_iconst K (nI 0) dX0_sum_28 (by decide) ?_
      rw [hQ0]
      exact x_iret K hr hlocks dX0_sum_29 () (rfl) (by unfold vSum; rw [show okSum t x y = false by unfold okSum; rw [decide_eq_false (fun z => z h2)]; simp]; rfl)
    · skip
      obtain ⟨xn, hx, rfl⟩ := nI_of h2
      refine x_iload_n K dX0_sum_11 rfl ?_
      refine x_iconst K (nI 2) dX0_sum_12 (by decide) ?_
      refine x_cmpN_gt K 28 dX0_sum_13 (by decide) (by omega) (by omega) (fun h3 => ?_) (fun h3 => ?_)
      · skip
        refine x_iconst K (nI 0) dX0_sum_28 (by decide) ?_
        rw [hQ0]
        exact x_iret K hr hlocks dX0_sum_29 () (rfl) (by unfold vSum; rw [show okSum t (nI xn) y = false by unfold okSum; rw [show decide (¬ (2 : Int32) < nI xn) = false from decide_eq_false (fun z => z ((nI_ltI (a := 2) (by omega) hx).mpr h3))]; simp]; rfl)
      · skip
        refine x_iload_n K dX0_sum_16 rfl ?_
        refine x_iconst K (nI 2) dX0_sum_17 (by decide) ?_
        refine x_cmpN_ge K 30 dX0_sum_18 (by decide) (by omega) (by omega) (fun h4 => ?_) (fun h4 => ?_)
        · skip
          obtain ⟨tn, ht, rfl⟩ := okb_of h1
          obtain rfl : xn = 2 := by omega
          obtain ⟨f, hfe⟩ : ∃ f, f = sl a tn := ⟨_, rfl⟩
          have hf := hR _ ht
          rw [← hfe] at hf
          have hok : okSum (nI tn) (nI 2) y = true := by unfold okSum; rw [h1]; rfl
          obtain ⟨h, hh⟩ : ∃ h : Nat → Int32, h = fun q => if q % 6 = q / 6 then f q else 0 := ⟨_, rfl⟩
          have hk : ∀ q, h q = if q % 6 = q / 6 then f q else 0 := fun q => by rw [hh]
          have hval : vSum a (nI tn) (nI 2) y = sm h 36 := by unfold vSum; rw [hok, if_pos rfl, hh, sm_2]; refine sm_congr (fun k _ => ?_); rw [if_neg (by decide), if_neg (by decide), cN_nI (by omega), hfe]
          refine x_iconst K (nI 0) dX0_sum_30 (by decide) ?_
          refine x_istore K [.ref (ad 0), .int (nI tn), .int (nI 2), .int y, .int (nI 0)] dX0_sum_31 (by decide) (Nat.le_of_ble_eq_true rfl) rfl ?_
          refine x_iconst K (nI 0) dX0_sum_33 (by decide) ?_
          refine x_istore K [.ref (ad 0), .int (nI tn), .int (nI 2), .int y, .int (nI 0), .int (nI 0)] dX0_sum_34 (by decide) (Nat.le_of_ble_eq_true rfl) rfl ?_
          have key : ∀ (n : Nat) (i : Nat) (sv : Int32), i + n = 6 → sv = sm h (6 * i) → XW p l e (rD 2) s m args below meth c 0 0 Q0 D A 8 (wX ad bd S C V NS NC NV mk Wk) 36 [.ref (ad 0), .int (nI tn), .int (nI 2), .int y, .int sv, .int (nI i)] [] := by
            intro n
            induction n with
            | zero =>
              intro i sv hi hsv
              obtain rfl : i = 6 := by omega
              refine x_iload K dX0_sum_36 rfl ?_
              refine x_bipush K (nI 6) dX0_sum_38 (by decide) ?_
              refine x_cmpN_ge K 158 dX0_sum_40 (by decide) (by omega) (by omega) (fun _ => ?_) (fun q => absurd q (by omega))
              refine x_iload K dX0_sum_158 rfl ?_
              rw [hQ0]
              exact x_iret K hr hlocks dX0_sum_160 () (rfl) (by rw [hval, hsv])
            | succ n ih =>
              intro i sv hi hsv
              have hi6 : i < 6 := by omega
              refine x_iload K dX0_sum_36 rfl ?_
              refine x_bipush K (nI 6) dX0_sum_38 (by decide) ?_
              refine x_cmpN_ge K 158 dX0_sum_40 (by decide) (by omega) (by omega) (fun q => absurd q (by omega)) (fun _ => ?_)
              refine x_aload_n K dX0_sum_43 rfl ?_
              refine x_iload_n K dX0_sum_44 rfl ?_
              refine x_iload K dX0_sum_45 rfl ?_
              refine caX_from K (by decide) hf ht hi6 (Nat.le_of_ble_eq_true rfl) dX0_sum_47 ?_
              refine x_istore K [.ref (ad 0), .int (nI tn), .int (nI 2), .int y, .int sv, .int (nI i), .int (nI (36 * tn + ct f (6 * i)))] dX0_sum_50 (by decide) (Nat.le_of_ble_eq_true rfl) rfl ?_
              have key2 : ∀ (n2 : Nat) (j : Nat) (sv : Int32), j ≤ 6 → 6 < j + n2 → sv = sm h (6 * i + j) → XW p l e (rD 2) s m args below meth c 0 0 Q0 D A 8 (wX ad bd S C V NS NC NV mk Wk) 52 [.ref (ad 0), .int (nI tn), .int (nI 2), .int y, .int sv, .int (nI i), .int (nI (36 * tn + ct f (6 * i + j)))] [] := by
                intro n2
                induction n2 with
                | zero =>
                  intro j sv hj hn hsv
                  exact absurd hn (by omega)
                | succ n2 ih2 =>
                  intro j sv hj hn hsv
                  have l1 := ct_row_le (f := f) hi6 hj
                  have l3 := ct_row_le (f := f) hi6 (Nat.le_refl 6)
                  rcases it_row hf hi6 hj with ⟨e1, zf⟩ | ⟨j1, a1, a2, a3, a4, a5, a6, a7, a8⟩
                  · skip
                    refine x_iload K dX0_sum_52 rfl ?_
                    refine x_aload_n K dX0_sum_54 rfl ?_
                    refine x_iload_n K dX0_sum_55 rfl ?_
                    refine x_iload K dX0_sum_56 rfl ?_
                    refine caX_upTo K (by decide) hf ht hi6 (Nat.le_of_ble_eq_true rfl) dX0_sum_58 ?_
                    refine x_cmpN_ge K 152 dX0_sum_61 (by decide) (by omega) (by omega) (fun _ => ?_) (fun q => absurd q (by omega))
                    refine x_iinc1 K [.ref (ad 0), .int (nI tn), .int (nI 2), .int y, .int sv, .int (nI (i + 1)), .int (nI (36 * tn + ct f (6 * i + j)))] dX0_sum_152 rfl (by decide) (Nat.le_of_ble_eq_true rfl) rfl ?_
                    refine x_goto K 36 dX0_sum_155 (by decide) ?_
                    refine x_drop [.ref (ad 0), .int (nI tn), .int (nI 2), .int y, .int sv, .int (nI (i + 1))] 6 rfl ?_
                    exact ih (i + 1) sv (by omega) (by rw [hsv]; exact (sm_run (n := 6 * i + 6) (by omega) (fun k h1 h2 => by rw [hk, show k = 6 * i + (k - 6 * i) by omega, zf _ (by omega) (by omega), ite_self])).symm)
                  · skip
                    have hs1 : sv = sm h (6 * i + j1) := by rw [hsv]; exact (sm_run (by omega) (fun k h1 h2 => by rw [hk, show k = 6 * i + (k - 6 * i) by omega, a4 _ (by omega) (by omega), ite_self])).symm
                    by_cases hc : j1 = i
                    · skip
                      refine x_iload K dX0_sum_52 rfl ?_
                      refine x_aload_n K dX0_sum_54 rfl ?_
                      refine x_iload_n K dX0_sum_55 rfl ?_
                      refine x_iload K dX0_sum_56 rfl ?_
                      refine caX_upTo K (by decide) hf ht hi6 (Nat.le_of_ble_eq_true rfl) dX0_sum_58 ?_
                      refine x_cmpN_ge K 152 dX0_sum_61 (by decide) (by omega) (by omega) (fun q => absurd q (by omega)) (fun _ => ?_)
                      refine x_iload_n K dX0_sum_64 rfl ?_
                      refine x_if_ne K 82 dX0_sum_65 (by decide) (fun _ => ?_) (fun q => absurd q (by decide))
                      refine x_iload_n K dX0_sum_82 rfl ?_
                      refine x_iconst K (nI 1) dX0_sum_83 (by decide) ?_
                      refine x_cmpN_ne K 106 dX0_sum_84 (by decide) (by omega) (by omega) (fun _ => ?_) (fun q => absurd q (by decide))
                      refine x_aload_n K dX0_sum_106 rfl ?_
                      refine gtC K dX0_sum_107 ?_
                      refine x_iload K dX0_sum_110 rfl ?_
                      refine ldC K (36 * tn + ct f (6 * i + j)) (rfl) (by omega) (x := (nI j1)) (a6) dX0_sum_112 ?_
                      refine x_iload K dX0_sum_113 rfl ?_
                      refine x_cmpN_ne K 122 dX0_sum_115 (by decide) (by omega) (by omega) (fun q => absurd q (by omega)) (fun _ => ?_)
                      refine x_iconst K (nI 1) dX0_sum_118 (by decide) ?_
                      refine x_goto K 123 dX0_sum_119 (by decide) ?_
                      refine x_istore K [.ref (ad 0), .int (nI tn), .int (nI 2), .int y, .int sv, .int (nI i), .int (nI (36 * tn + ct f (6 * i + j))), .int (nI 1)] dX0_sum_123 (by decide) (Nat.le_of_ble_eq_true rfl) rfl ?_
                      refine x_iload K dX0_sum_125 rfl ?_
                      refine x_iload K dX0_sum_127 rfl ?_
                      refine x_if_eq K 142 dX0_sum_129 (by decide) (fun q => absurd q (by decide)) (fun _ => ?_)
                      refine x_aload_n K dX0_sum_132 rfl ?_
                      refine gtV K dX0_sum_133 ?_
                      refine x_iload K dX0_sum_136 rfl ?_
                      refine ldV K (36 * tn + ct f (6 * i + j)) (rfl) (by omega) (x := (f (6 * i + j1))) (a7) dX0_sum_138 ?_
                      refine x_goto K 143 dX0_sum_139 (by decide) ?_
                      refine x_iadd K dX0_sum_143 ?_
                      refine x_istore K [.ref (ad 0), .int (nI tn), .int (nI 2), .int y, .int (sv + ((f (6 * i + j1)))), .int (nI i), .int (nI (36 * tn + ct f (6 * i + j))), .int (nI 1)] dX0_sum_144 (by decide) (Nat.le_of_ble_eq_true rfl) rfl ?_
                      refine x_iinc1 K [.ref (ad 0), .int (nI tn), .int (nI 2), .int y, .int (sv + ((f (6 * i + j1)))), .int (nI i), .int (nI (36 * tn + ct f (6 * i + j) + 1)), .int (nI 1)] dX0_sum_146 rfl (by decide) (Nat.le_of_ble_eq_true rfl) rfl ?_
                      refine x_goto K 52 dX0_sum_149 (by decide) ?_
                      refine x_drop [.ref (ad 0), .int (nI tn), .int (nI 2), .int y, .int (sv + ((f (6 * i + j1)))), .int (nI i), .int (nI (36 * tn + ct f (6 * i + j) + 1))] 7 rfl ?_
                      rw [show 36 * tn + ct f (6 * i + j) + 1 = 36 * tn + ct f (6 * i + (j1 + 1)) by omega]
                      exact ih2 (j1 + 1) _ (by omega) (by omega) (by rw [show 6 * i + (j1 + 1) = (6 * i + j1) + 1 by omega, sm_s, hk, if_pos (by omega), hs1])
                    · skip
                      refine x_iload K dX0_sum_52 rfl ?_
                      refine x_aload_n K dX0_sum_54 rfl ?_
                      refine x_iload_n K dX0_sum_55 rfl ?_
                      refine x_iload K dX0_sum_56 rfl ?_
                      refine caX_upTo K (by decide) hf ht hi6 (Nat.le_of_ble_eq_true rfl) dX0_sum_58 ?_
                      refine x_cmpN_ge K 152 dX0_sum_61 (by decide) (by omega) (by omega) (fun q => absurd q (by omega)) (fun _ => ?_)
                      refine x_iload_n K dX0_sum_64 rfl ?_
                      refine x_if_ne K 82 dX0_sum_65 (by decide) (fun _ => ?_) (fun q => absurd q (by decide))
                      refine x_iload_n K dX0_sum_82 rfl ?_
                      refine x_iconst K (nI 1) dX0_sum_83 (by decide) ?_
                      refine x_cmpN_ne K 106 dX0_sum_84 (by decide) (by omega) (by omega) (fun _ => ?_) (fun q => absurd q (by decide))
                      refine x_aload_n K dX0_sum_106 rfl ?_
                      refine gtC K dX0_sum_107 ?_
                      refine x_iload K dX0_sum_110 rfl ?_
                      refine ldC K (36 * tn + ct f (6 * i + j)) (rfl) (by omega) (x := (nI j1)) (a6) dX0_sum_112 ?_
                      refine x_iload K dX0_sum_113 rfl ?_
                      refine x_cmpN_ne K 122 dX0_sum_115 (by decide) (by omega) (by omega) (fun _ => ?_) (fun q => absurd q (by omega))
                      refine x_iconst K (nI 0) dX0_sum_122 (by decide) ?_
                      refine x_istore K [.ref (ad 0), .int (nI tn), .int (nI 2), .int y, .int sv, .int (nI i), .int (nI (36 * tn + ct f (6 * i + j))), .int (nI 0)] dX0_sum_123 (by decide) (Nat.le_of_ble_eq_true rfl) rfl ?_
                      refine x_iload K dX0_sum_125 rfl ?_
                      refine x_iload K dX0_sum_127 rfl ?_
                      refine x_if_eq K 142 dX0_sum_129 (by decide) (fun _ => ?_) (fun q => absurd q (fun z => z rfl))
                      refine x_iconst K (nI 0) dX0_sum_142 (by decide) ?_
                      refine x_iadd K dX0_sum_143 ?_
                      refine x_istore K [.ref (ad 0), .int (nI tn), .int (nI 2), .int y, .int (sv + ((nI 0))), .int (nI i), .int (nI (36 * tn + ct f (6 * i + j))), .int (nI 0)] dX0_sum_144 (by decide) (Nat.le_of_ble_eq_true rfl) rfl ?_
                      refine x_iinc1 K [.ref (ad 0), .int (nI tn), .int (nI 2), .int y, .int (sv + ((nI 0))), .int (nI i), .int (nI (36 * tn + ct f (6 * i + j) + 1)), .int (nI 0)] dX0_sum_146 rfl (by decide) (Nat.le_of_ble_eq_true rfl) rfl ?_
                      refine x_goto K 52 dX0_sum_149 (by decide) ?_
                      refine x_drop [.ref (ad 0), .int (nI tn), .int (nI 2), .int y, .int (sv + ((nI 0))), .int (nI i), .int (nI (36 * tn + ct f (6 * i + j) + 1))] 7 rfl ?_
                      rw [show 36 * tn + ct f (6 * i + j) + 1 = 36 * tn + ct f (6 * i + (j1 + 1)) by omega]
                      exact ih2 (j1 + 1) _ (by omega) (by omega) (by rw [show 6 * i + (j1 + 1) = (6 * i + j1) + 1 by omega, sm_s, hk, if_neg (by omega), hs1]; rfl)
              exact key2 7 0 sv (by omega) (by omega) hsv
          exact key 6 0 _ (by omega) rfl
        · skip
          refine x_iload_n K dX0_sum_21 rfl ?_
          refine caX_isIndex K (by decide) (Nat.le_of_ble_eq_true rfl) dX0_sum_22 ?_
          refine x_if_neB K 30 dX0_sum_25 (by decide) (fun h5 => ?_) (fun h5 => ?_)
          · skip
            obtain ⟨tn, ht, rfl⟩ := okb_of h1
            obtain ⟨yn, hy, rfl⟩ := okb_of h5
            rcases (show xn = 0 ∨ xn = 1 by omega) with rfl | rfl
            · skip
              obtain ⟨f, hfe⟩ : ∃ f, f = sl a tn := ⟨_, rfl⟩
              have hf := hR _ ht
              rw [← hfe] at hf
              have hok : okSum (nI tn) (nI 0) ((nI yn)) = true := by unfold okSum; rw [h1, h5]; rfl
              obtain ⟨h, hh⟩ : ∃ h : Nat → Int32, h = fun q => if q / 6 = yn then f q else 0 := ⟨_, rfl⟩
              have hk : ∀ q, h q = if q / 6 = yn then f q else 0 := fun q => by rw [hh]
              have hval : vSum a (nI tn) (nI 0) ((nI yn)) = sm h 36 := by unfold vSum; rw [hok, if_pos rfl, hh, sm_0 f hy]; refine sm_congr (fun k _ => ?_); rw [if_pos (by decide), cN_nI (by omega), cN_nI (by omega), hfe]
              refine x_iconst K (nI 0) dX0_sum_30 (by decide) ?_
              refine x_istore K [.ref (ad 0), .int (nI tn), .int (nI 0), .int (nI yn), .int (nI 0)] dX0_sum_31 (by decide) (Nat.le_of_ble_eq_true rfl) rfl ?_
              refine x_iconst K (nI 0) dX0_sum_33 (by decide) ?_
              refine x_istore K [.ref (ad 0), .int (nI tn), .int (nI 0), .int (nI yn), .int (nI 0), .int (nI 0)] dX0_sum_34 (by decide) (Nat.le_of_ble_eq_true rfl) rfl ?_
              have key : ∀ (n : Nat) (i : Nat) (sv : Int32), i + n = 6 → sv = sm h (6 * i) → XW p l e (rD 2) s m args below meth c 0 0 Q0 D A 8 (wX ad bd S C V NS NC NV mk Wk) 36 [.ref (ad 0), .int (nI tn), .int (nI 0), .int (nI yn), .int sv, .int (nI i)] [] := by
                intro n
                induction n with
                | zero =>
                  intro i sv hi hsv
                  obtain rfl : i = 6 := by omega
                  refine x_iload K dX0_sum_36 rfl ?_
                  refine x_bipush K (nI 6) dX0_sum_38 (by decide) ?_
                  refine x_cmpN_ge K 158 dX0_sum_40 (by decide) (by omega) (by omega) (fun _ => ?_) (fun q => absurd q (by omega))
                  refine x_iload K dX0_sum_158 rfl ?_
                  rw [hQ0]
                  exact x_iret K hr hlocks dX0_sum_160 () (rfl) (by rw [hval, hsv])
                | succ n ih =>
                  intro i sv hi hsv
                  have hi6 : i < 6 := by omega
                  refine x_iload K dX0_sum_36 rfl ?_
                  refine x_bipush K (nI 6) dX0_sum_38 (by decide) ?_
                  refine x_cmpN_ge K 158 dX0_sum_40 (by decide) (by omega) (by omega) (fun q => absurd q (by omega)) (fun _ => ?_)
                  refine x_aload_n K dX0_sum_43 rfl ?_
                  refine x_iload_n K dX0_sum_44 rfl ?_
                  refine x_iload K dX0_sum_45 rfl ?_
                  refine caX_from K (by decide) hf ht hi6 (Nat.le_of_ble_eq_true rfl) dX0_sum_47 ?_
                  refine x_istore K [.ref (ad 0), .int (nI tn), .int (nI 0), .int (nI yn), .int sv, .int (nI i), .int (nI (36 * tn + ct f (6 * i)))] dX0_sum_50 (by decide) (Nat.le_of_ble_eq_true rfl) rfl ?_
                  have key2 : ∀ (n2 : Nat) (j : Nat) (sv : Int32), j ≤ 6 → 6 < j + n2 → sv = sm h (6 * i + j) → XW p l e (rD 2) s m args below meth c 0 0 Q0 D A 8 (wX ad bd S C V NS NC NV mk Wk) 52 [.ref (ad 0), .int (nI tn), .int (nI 0), .int (nI yn), .int sv, .int (nI i), .int (nI (36 * tn + ct f (6 * i + j)))] [] := by
                    intro n2
                    induction n2 with
                    | zero =>
                      intro j sv hj hn hsv
                      exact absurd hn (by omega)
                    | succ n2 ih2 =>
                      intro j sv hj hn hsv
                      have l1 := ct_row_le (f := f) hi6 hj
                      have l3 := ct_row_le (f := f) hi6 (Nat.le_refl 6)
                      rcases it_row hf hi6 hj with ⟨e1, zf⟩ | ⟨j1, a1, a2, a3, a4, a5, a6, a7, a8⟩
                      · skip
                        refine x_iload K dX0_sum_52 rfl ?_
                        refine x_aload_n K dX0_sum_54 rfl ?_
                        refine x_iload_n K dX0_sum_55 rfl ?_
                        refine x_iload K dX0_sum_56 rfl ?_
                        refine caX_upTo K (by decide) hf ht hi6 (Nat.le_of_ble_eq_true rfl) dX0_sum_58 ?_
                        refine x_cmpN_ge K 152 dX0_sum_61 (by decide) (by omega) (by omega) (fun _ => ?_) (fun q => absurd q (by omega))
                        refine x_iinc1 K [.ref (ad 0), .int (nI tn), .int (nI 0), .int (nI yn), .int sv, .int (nI (i + 1)), .int (nI (36 * tn + ct f (6 * i + j)))] dX0_sum_152 rfl (by decide) (Nat.le_of_ble_eq_true rfl) rfl ?_
                        refine x_goto K 36 dX0_sum_155 (by decide) ?_
                        refine x_drop [.ref (ad 0), .int (nI tn), .int (nI 0), .int (nI yn), .int sv, .int (nI (i + 1))] 6 rfl ?_
                        exact ih (i + 1) sv (by omega) (by rw [hsv]; exact (sm_run (n := 6 * i + 6) (by omega) (fun k h1 h2 => by rw [hk, show k = 6 * i + (k - 6 * i) by omega, zf _ (by omega) (by omega), ite_self])).symm)
                      · skip
                        have hs1 : sv = sm h (6 * i + j1) := by rw [hsv]; exact (sm_run (by omega) (fun k h1 h2 => by rw [hk, show k = 6 * i + (k - 6 * i) by omega, a4 _ (by omega) (by omega), ite_self])).symm
                        by_cases hc : i = yn
                        · skip
                          refine x_iload K dX0_sum_52 rfl ?_
                          refine x_aload_n K dX0_sum_54 rfl ?_
                          refine x_iload_n K dX0_sum_55 rfl ?_
                          refine x_iload K dX0_sum_56 rfl ?_
                          refine caX_upTo K (by decide) hf ht hi6 (Nat.le_of_ble_eq_true rfl) dX0_sum_58 ?_
                          refine x_cmpN_ge K 152 dX0_sum_61 (by decide) (by omega) (by omega) (fun q => absurd q (by omega)) (fun _ => ?_)
                          refine x_iload_n K dX0_sum_64 rfl ?_
                          refine x_if_ne K 82 dX0_sum_65 (by decide) (fun q => absurd q (fun z => z rfl)) (fun _ => ?_)
                          refine x_iload K dX0_sum_68 rfl ?_
                          refine x_iload_n K dX0_sum_70 rfl ?_
                          refine x_cmpN_ne K 78 dX0_sum_71 (by decide) (by omega) (by omega) (fun q => absurd q (by omega)) (fun _ => ?_)
                          refine x_iconst K (nI 1) dX0_sum_74 (by decide) ?_
                          refine x_goto K 123 dX0_sum_75 (by decide) ?_
                          refine x_istore K [.ref (ad 0), .int (nI tn), .int (nI 0), .int (nI yn), .int sv, .int (nI i), .int (nI (36 * tn + ct f (6 * i + j))), .int (nI 1)] dX0_sum_123 (by decide) (Nat.le_of_ble_eq_true rfl) rfl ?_
                          refine x_iload K dX0_sum_125 rfl ?_
                          refine x_iload K dX0_sum_127 rfl ?_
                          refine x_if_eq K 142 dX0_sum_129 (by decide) (fun q => absurd q (by decide)) (fun _ => ?_)
                          refine x_aload_n K dX0_sum_132 rfl ?_
                          refine gtV K dX0_sum_133 ?_
                          refine x_iload K dX0_sum_136 rfl ?_
                          refine ldV K (36 * tn + ct f (6 * i + j)) (rfl) (by omega) (x := (f (6 * i + j1))) (a7) dX0_sum_138 ?_
                          refine x_goto K 143 dX0_sum_139 (by decide) ?_
                          refine x_iadd K dX0_sum_143 ?_
                          refine x_istore K [.ref (ad 0), .int (nI tn), .int (nI 0), .int (nI yn), .int (sv + ((f (6 * i + j1)))), .int (nI i), .int (nI (36 * tn + ct f (6 * i + j))), .int (nI 1)] dX0_sum_144 (by decide) (Nat.le_of_ble_eq_true rfl) rfl ?_
                          refine x_iinc1 K [.ref (ad 0), .int (nI tn), .int (nI 0), .int (nI yn), .int (sv + ((f (6 * i + j1)))), .int (nI i), .int (nI (36 * tn + ct f (6 * i + j) + 1)), .int (nI 1)] dX0_sum_146 rfl (by decide) (Nat.le_of_ble_eq_true rfl) rfl ?_
                          refine x_goto K 52 dX0_sum_149 (by decide) ?_
                          refine x_drop [.ref (ad 0), .int (nI tn), .int (nI 0), .int (nI yn), .int (sv + ((f (6 * i + j1)))), .int (nI i), .int (nI (36 * tn + ct f (6 * i + j) + 1))] 7 rfl ?_
                          rw [show 36 * tn + ct f (6 * i + j) + 1 = 36 * tn + ct f (6 * i + (j1 + 1)) by omega]
                          exact ih2 (j1 + 1) _ (by omega) (by omega) (by rw [show 6 * i + (j1 + 1) = (6 * i + j1) + 1 by omega, sm_s, hk, if_pos (by omega), hs1])
                        · skip
                          refine x_iload K dX0_sum_52 rfl ?_
                          refine x_aload_n K dX0_sum_54 rfl ?_
                          refine x_iload_n K dX0_sum_55 rfl ?_
                          refine x_iload K dX0_sum_56 rfl ?_
                          refine caX_upTo K (by decide) hf ht hi6 (Nat.le_of_ble_eq_true rfl) dX0_sum_58 ?_
                          refine x_cmpN_ge K 152 dX0_sum_61 (by decide) (by omega) (by omega) (fun q => absurd q (by omega)) (fun _ => ?_)
                          refine x_iload_n K dX0_sum_64 rfl ?_
                          refine x_if_ne K 82 dX0_sum_65 (by decide) (fun q => absurd q (fun z => z rfl)) (fun _ => ?_)
                          refine x_iload K dX0_sum_68 rfl ?_
                          refine x_iload_n K dX0_sum_70 rfl ?_
                          refine x_cmpN_ne K 78 dX0_sum_71 (by decide) (by omega) (by omega) (fun _ => ?_) (fun q => absurd q (by omega))
                          refine x_iconst K (nI 0) dX0_sum_78 (by decide) ?_
                          refine x_goto K 123 dX0_sum_79 (by decide) ?_
                          refine x_istore K [.ref (ad 0), .int (nI tn), .int (nI 0), .int (nI yn), .int sv, .int (nI i), .int (nI (36 * tn + ct f (6 * i + j))), .int (nI 0)] dX0_sum_123 (by decide) (Nat.le_of_ble_eq_true rfl) rfl ?_
                          refine x_iload K dX0_sum_125 rfl ?_
                          refine x_iload K dX0_sum_127 rfl ?_
                          refine x_if_eq K 142 dX0_sum_129 (by decide) (fun _ => ?_) (fun q => absurd q (fun z => z rfl))
                          refine x_iconst K (nI 0) dX0_sum_142 (by decide) ?_
                          refine x_iadd K dX0_sum_143 ?_
                          refine x_istore K [.ref (ad 0), .int (nI tn), .int (nI 0), .int (nI yn), .int (sv + ((nI 0))), .int (nI i), .int (nI (36 * tn + ct f (6 * i + j))), .int (nI 0)] dX0_sum_144 (by decide) (Nat.le_of_ble_eq_true rfl) rfl ?_
                          refine x_iinc1 K [.ref (ad 0), .int (nI tn), .int (nI 0), .int (nI yn), .int (sv + ((nI 0))), .int (nI i), .int (nI (36 * tn + ct f (6 * i + j) + 1)), .int (nI 0)] dX0_sum_146 rfl (by decide) (Nat.le_of_ble_eq_true rfl) rfl ?_
                          refine x_goto K 52 dX0_sum_149 (by decide) ?_
                          refine x_drop [.ref (ad 0), .int (nI tn), .int (nI 0), .int (nI yn), .int (sv + ((nI 0))), .int (nI i), .int (nI (36 * tn + ct f (6 * i + j) + 1))] 7 rfl ?_
                          rw [show 36 * tn + ct f (6 * i + j) + 1 = 36 * tn + ct f (6 * i + (j1 + 1)) by omega]
                          exact ih2 (j1 + 1) _ (by omega) (by omega) (by rw [show 6 * i + (j1 + 1) = (6 * i + j1) + 1 by omega, sm_s, hk, if_neg (by omega), hs1]; rfl)
                  exact key2 7 0 sv (by omega) (by omega) hsv
              exact key 6 0 _ (by omega) rfl
            · skip
              obtain ⟨f, hfe⟩ : ∃ f, f = sl a tn := ⟨_, rfl⟩
              have hf := hR _ ht
              rw [← hfe] at hf
              have hok : okSum (nI tn) (nI 1) ((nI yn)) = true := by unfold okSum; rw [h1, h5]; rfl
              obtain ⟨h, hh⟩ : ∃ h : Nat → Int32, h = fun q => if q % 6 = yn then f q else 0 := ⟨_, rfl⟩
              have hk : ∀ q, h q = if q % 6 = yn then f q else 0 := fun q => by rw [hh]
              have hval : vSum a (nI tn) (nI 1) ((nI yn)) = sm h 36 := by unfold vSum; rw [hok, if_pos rfl, hh, sm_1 f hy]; refine sm_congr (fun k _ => ?_); rw [if_neg (by decide), if_pos (by decide), cN_nI (by omega), cN_nI (by omega), hfe]
              refine x_iconst K (nI 0) dX0_sum_30 (by decide) ?_
              refine x_istore K [.ref (ad 0), .int (nI tn), .int (nI 1), .int (nI yn), .int (nI 0)] dX0_sum_31 (by decide) (Nat.le_of_ble_eq_true rfl) rfl ?_
              refine x_iconst K (nI 0) dX0_sum_33 (by decide) ?_
              refine x_istore K [.ref (ad 0), .int (nI tn), .int (nI 1), .int (nI yn), .int (nI 0), .int (nI 0)] dX0_sum_34 (by decide) (Nat.le_of_ble_eq_true rfl) rfl ?_
              have key : ∀ (n : Nat) (i : Nat) (sv : Int32), i + n = 6 → sv = sm h (6 * i) → XW p l e (rD 2) s m args below meth c 0 0 Q0 D A 8 (wX ad bd S C V NS NC NV mk Wk) 36 [.ref (ad 0), .int (nI tn), .int (nI 1), .int (nI yn), .int sv, .int (nI i)] [] := by
                intro n
                induction n with
                | zero =>
                  intro i sv hi hsv
                  obtain rfl : i = 6 := by omega
                  refine x_iload K dX0_sum_36 rfl ?_
                  refine x_bipush K (nI 6) dX0_sum_38 (by decide) ?_
                  refine x_cmpN_ge K 158 dX0_sum_40 (by decide) (by omega) (by omega) (fun _ => ?_) (fun q => absurd q (by omega))
                  refine x_iload K dX0_sum_158 rfl ?_
                  rw [hQ0]
                  exact x_iret K hr hlocks dX0_sum_160 () (rfl) (by rw [hval, hsv])
                | succ n ih =>
                  intro i sv hi hsv
                  have hi6 : i < 6 := by omega
                  refine x_iload K dX0_sum_36 rfl ?_
                  refine x_bipush K (nI 6) dX0_sum_38 (by decide) ?_
                  refine x_cmpN_ge K 158 dX0_sum_40 (by decide) (by omega) (by omega) (fun q => absurd q (by omega)) (fun _ => ?_)
                  refine x_aload_n K dX0_sum_43 rfl ?_
                  refine x_iload_n K dX0_sum_44 rfl ?_
                  refine x_iload K dX0_sum_45 rfl ?_
                  refine caX_from K (by decide) hf ht hi6 (Nat.le_of_ble_eq_true rfl) dX0_sum_47 ?_
                  refine x_istore K [.ref (ad 0), .int (nI tn), .int (nI 1), .int (nI yn), .int sv, .int (nI i), .int (nI (36 * tn + ct f (6 * i)))] dX0_sum_50 (by decide) (Nat.le_of_ble_eq_true rfl) rfl ?_
                  have key2 : ∀ (n2 : Nat) (j : Nat) (sv : Int32), j ≤ 6 → 6 < j + n2 → sv = sm h (6 * i + j) → XW p l e (rD 2) s m args below meth c 0 0 Q0 D A 8 (wX ad bd S C V NS NC NV mk Wk) 52 [.ref (ad 0), .int (nI tn), .int (nI 1), .int (nI yn), .int sv, .int (nI i), .int (nI (36 * tn + ct f (6 * i + j)))] [] := by
                    intro n2
                    induction n2 with
                    | zero =>
                      intro j sv hj hn hsv
                      exact absurd hn (by omega)
                    | succ n2 ih2 =>
                      intro j sv hj hn hsv
                      have l1 := ct_row_le (f := f) hi6 hj
                      have l3 := ct_row_le (f := f) hi6 (Nat.le_refl 6)
                      rcases it_row hf hi6 hj with ⟨e1, zf⟩ | ⟨j1, a1, a2, a3, a4, a5, a6, a7, a8⟩
                      · skip
                        refine x_iload K dX0_sum_52 rfl ?_
                        refine x_aload_n K dX0_sum_54 rfl ?_
                        refine x_iload_n K dX0_sum_55 rfl ?_
                        refine x_iload K dX0_sum_56 rfl ?_
                        refine caX_upTo K (by decide) hf ht hi6 (Nat.le_of_ble_eq_true rfl) dX0_sum_58 ?_
                        refine x_cmpN_ge K 152 dX0_sum_61 (by decide) (by omega) (by omega) (fun _ => ?_) (fun q => absurd q (by omega))
                        refine x_iinc1 K [.ref (ad 0), .int (nI tn), .int (nI 1), .int (nI yn), .int sv, .int (nI (i + 1)), .int (nI (36 * tn + ct f (6 * i + j)))] dX0_sum_152 rfl (by decide) (Nat.le_of_ble_eq_true rfl) rfl ?_
                        refine x_goto K 36 dX0_sum_155 (by decide) ?_
                        refine x_drop [.ref (ad 0), .int (nI tn), .int (nI 1), .int (nI yn), .int sv, .int (nI (i + 1))] 6 rfl ?_
                        exact ih (i + 1) sv (by omega) (by rw [hsv]; exact (sm_run (n := 6 * i + 6) (by omega) (fun k h1 h2 => by rw [hk, show k = 6 * i + (k - 6 * i) by omega, zf _ (by omega) (by omega), ite_self])).symm)
                      · skip
                        have hs1 : sv = sm h (6 * i + j1) := by rw [hsv]; exact (sm_run (by omega) (fun k h1 h2 => by rw [hk, show k = 6 * i + (k - 6 * i) by omega, a4 _ (by omega) (by omega), ite_self])).symm
                        by_cases hc : j1 = yn
                        · skip
                          refine x_iload K dX0_sum_52 rfl ?_
                          refine x_aload_n K dX0_sum_54 rfl ?_
                          refine x_iload_n K dX0_sum_55 rfl ?_
                          refine x_iload K dX0_sum_56 rfl ?_
                          refine caX_upTo K (by decide) hf ht hi6 (Nat.le_of_ble_eq_true rfl) dX0_sum_58 ?_
                          refine x_cmpN_ge K 152 dX0_sum_61 (by decide) (by omega) (by omega) (fun q => absurd q (by omega)) (fun _ => ?_)
                          refine x_iload_n K dX0_sum_64 rfl ?_
                          refine x_if_ne K 82 dX0_sum_65 (by decide) (fun _ => ?_) (fun q => absurd q (by decide))
                          refine x_iload_n K dX0_sum_82 rfl ?_
                          refine x_iconst K (nI 1) dX0_sum_83 (by decide) ?_
                          refine x_cmpN_ne K 106 dX0_sum_84 (by decide) (by omega) (by omega) (fun q => absurd q (by omega)) (fun _ => ?_)
                          refine x_aload_n K dX0_sum_87 rfl ?_
                          refine gtC K dX0_sum_88 ?_
                          refine x_iload K dX0_sum_91 rfl ?_
                          refine ldC K (36 * tn + ct f (6 * i + j)) (rfl) (by omega) (x := (nI j1)) (a6) dX0_sum_93 ?_
                          refine x_iload_n K dX0_sum_94 rfl ?_
                          refine x_cmpN_ne K 102 dX0_sum_95 (by decide) (by omega) (by omega) (fun q => absurd q (by omega)) (fun _ => ?_)
                          refine x_iconst K (nI 1) dX0_sum_98 (by decide) ?_
                          refine x_goto K 123 dX0_sum_99 (by decide) ?_
                          refine x_istore K [.ref (ad 0), .int (nI tn), .int (nI 1), .int (nI yn), .int sv, .int (nI i), .int (nI (36 * tn + ct f (6 * i + j))), .int (nI 1)] dX0_sum_123 (by decide) (Nat.le_of_ble_eq_true rfl) rfl ?_
                          refine x_iload K dX0_sum_125 rfl ?_
                          refine x_iload K dX0_sum_127 rfl ?_
                          refine x_if_eq K 142 dX0_sum_129 (by decide) (fun q => absurd q (by decide)) (fun _ => ?_)
                          refine x_aload_n K dX0_sum_132 rfl ?_
                          refine gtV K dX0_sum_133 ?_
                          refine x_iload K dX0_sum_136 rfl ?_
                          refine ldV K (36 * tn + ct f (6 * i + j)) (rfl) (by omega) (x := (f (6 * i + j1))) (a7) dX0_sum_138 ?_
                          refine x_goto K 143 dX0_sum_139 (by decide) ?_
                          refine x_iadd K dX0_sum_143 ?_
                          refine x_istore K [.ref (ad 0), .int (nI tn), .int (nI 1), .int (nI yn), .int (sv + ((f (6 * i + j1)))), .int (nI i), .int (nI (36 * tn + ct f (6 * i + j))), .int (nI 1)] dX0_sum_144 (by decide) (Nat.le_of_ble_eq_true rfl) rfl ?_
                          refine x_iinc1 K [.ref (ad 0), .int (nI tn), .int (nI 1), .int (nI yn), .int (sv + ((f (6 * i + j1)))), .int (nI i), .int (nI (36 * tn + ct f (6 * i + j) + 1)), .int (nI 1)] dX0_sum_146 rfl (by decide) (Nat.le_of_ble_eq_true rfl) rfl ?_
                          refine x_goto K 52 dX0_sum_149 (by decide) ?_
                          refine x_drop [.ref (ad 0), .int (nI tn), .int (nI 1), .int (nI yn), .int (sv + ((f (6 * i + j1)))), .int (nI i), .int (nI (36 * tn + ct f (6 * i + j) + 1))] 7 rfl ?_
                          rw [show 36 * tn + ct f (6 * i + j) + 1 = 36 * tn + ct f (6 * i + (j1 + 1)) by omega]
                          exact ih2 (j1 + 1) _ (by omega) (by omega) (by rw [show 6 * i + (j1 + 1) = (6 * i + j1) + 1 by omega, sm_s, hk, if_pos (by omega), hs1])
                        · skip
                          refine x_iload K dX0_sum_52 rfl ?_
                          refine x_aload_n K dX0_sum_54 rfl ?_
                          refine x_iload_n K dX0_sum_55 rfl ?_
                          refine x_iload K dX0_sum_56 rfl ?_
                          refine caX_upTo K (by decide) hf ht hi6 (Nat.le_of_ble_eq_true rfl) dX0_sum_58 ?_
                          refine x_cmpN_ge K 152 dX0_sum_61 (by decide) (by omega) (by omega) (fun q => absurd q (by omega)) (fun _ => ?_)
                          refine x_iload_n K dX0_sum_64 rfl ?_
                          refine x_if_ne K 82 dX0_sum_65 (by decide) (fun _ => ?_) (fun q => absurd q (by decide))
                          refine x_iload_n K dX0_sum_82 rfl ?_
                          refine x_iconst K (nI 1) dX0_sum_83 (by decide) ?_
                          refine x_cmpN_ne K 106 dX0_sum_84 (by decide) (by omega) (by omega) (fun q => absurd q (by omega)) (fun _ => ?_)
                          refine x_aload_n K dX0_sum_87 rfl ?_
                          refine gtC K dX0_sum_88 ?_
                          refine x_iload K dX0_sum_91 rfl ?_
                          refine ldC K (36 * tn + ct f (6 * i + j)) (rfl) (by omega) (x := (nI j1)) (a6) dX0_sum_93 ?_
                          refine x_iload_n K dX0_sum_94 rfl ?_
                          refine x_cmpN_ne K 102 dX0_sum_95 (by decide) (by omega) (by omega) (fun _ => ?_) (fun q => absurd q (by omega))
                          refine x_iconst K (nI 0) dX0_sum_102 (by decide) ?_
                          refine x_goto K 123 dX0_sum_103 (by decide) ?_
                          refine x_istore K [.ref (ad 0), .int (nI tn), .int (nI 1), .int (nI yn), .int sv, .int (nI i), .int (nI (36 * tn + ct f (6 * i + j))), .int (nI 0)] dX0_sum_123 (by decide) (Nat.le_of_ble_eq_true rfl) rfl ?_
                          refine x_iload K dX0_sum_125 rfl ?_
                          refine x_iload K dX0_sum_127 rfl ?_
                          refine x_if_eq K 142 dX0_sum_129 (by decide) (fun _ => ?_) (fun q => absurd q (fun z => z rfl))
                          refine x_iconst K (nI 0) dX0_sum_142 (by decide) ?_
                          refine x_iadd K dX0_sum_143 ?_
                          refine x_istore K [.ref (ad 0), .int (nI tn), .int (nI 1), .int (nI yn), .int (sv + ((nI 0))), .int (nI i), .int (nI (36 * tn + ct f (6 * i + j))), .int (nI 0)] dX0_sum_144 (by decide) (Nat.le_of_ble_eq_true rfl) rfl ?_
                          refine x_iinc1 K [.ref (ad 0), .int (nI tn), .int (nI 1), .int (nI yn), .int (sv + ((nI 0))), .int (nI i), .int (nI (36 * tn + ct f (6 * i + j) + 1)), .int (nI 0)] dX0_sum_146 rfl (by decide) (Nat.le_of_ble_eq_true rfl) rfl ?_
                          refine x_goto K 52 dX0_sum_149 (by decide) ?_
                          refine x_drop [.ref (ad 0), .int (nI tn), .int (nI 1), .int (nI yn), .int (sv + ((nI 0))), .int (nI i), .int (nI (36 * tn + ct f (6 * i + j) + 1))] 7 rfl ?_
                          rw [show 36 * tn + ct f (6 * i + j) + 1 = 36 * tn + ct f (6 * i + (j1 + 1)) by omega]
                          exact ih2 (j1 + 1) _ (by omega) (by omega) (by rw [show 6 * i + (j1 + 1) = (6 * i + j1) + 1 by omega, sm_s, hk, if_neg (by omega), hs1]; rfl)
                  exact key2 7 0 sv (by omega) (by omega) hsv
              exact key 6 0 _ (by omega) rfl
          · skip
            refine x_iconst K (nI 0) dX0_sum_28 (by decide) ?_
            rw [hQ0]
            exact x_iret K hr hlocks dX0_sum_29 () (rfl) (by unfold vSum; rw [show okSum t (nI xn) y = false by unfold okSum; rw [h5, show decide (nI xn = (2 : Int32)) = false from decide_eq_false (fun z => h4 (by have := (nI_eq (b := 2) hx (by omega)).mp z; omega))]; simp]; rfl)
theorem same_step {S C V f g : Nat → Int32} {x y c : Nat} (hf : RepS S C V x f) (hg : RepS S C V y g) (hs : ∀ i, i ≤ 6 → ct f (6 * i) = ct g (6 * i)) (hk : ∀ k, k < ct f 36 → C (36 * x + k) = C (36 * y + k) ∧ V (36 * x + k) = V (36 * y + k)) (hc : c < 36) (hl : ct f c = ct g c) (h0 : f c ≠ 0) : g c = f c := by
  have h1 : ct f c < ct f 36 := ct_lt hc h0
  have h36 : ct f 36 = ct g 36 := hs 6 (Nat.le_refl 6)
  have hi : c / 6 ≤ 5 := by omega
  have e1 : ct f (6 * (c / 6)) = ct g (6 * (c / 6)) := hs _ (by omega)
  have e2 : ct f (6 * (c / 6 + 1)) = ct g (6 * (c / 6 + 1)) := hs _ (by omega)
  have h2 : ct f c < ct f (6 * (c / 6 + 1)) := ct_lt (by omega) h0
  obtain ⟨d, d1, d2, d3, d4⟩ := ct_inv (f := g) (m := c) (n := 6 * (c / 6 + 1)) (k := ct f c) (by omega) (by omega) (by omega)
  have a1 := hf.2 c hc h0
  have a2 := hg.2 d (by omega) d3
  have a3 := hk _ h1
  rw [d4, ← a3.1, ← a3.2, a1.1, a1.2] at a2
  have e3 := (nI_eq (by omega) (by omega)).mp a2.1
  have e4 : d = c := by omega
  rw [a2.2, e4]
theorem same_all {S C V f g : Nat → Int32} {x y : Nat} (hf : RepS S C V x f) (hg : RepS S C V y g) (hs : ∀ i, i ≤ 6 → ct f (6 * i) = ct g (6 * i)) (hk : ∀ k, k < ct f 36 → C (36 * x + k) = C (36 * y + k) ∧ V (36 * x + k) = V (36 * y + k)) : ∀ c, c < 36 → f c = g c := by
  have h36 : ct f 36 = ct g 36 := hs 6 (Nat.le_refl 6)
  have key : ∀ n c, n ≤ 36 → c < n → f c = g c := by
    intro n
    induction n with
    | zero => intro c _ h; omega
    | succ n ih =>
      intro c hn hc
      rcases Nat.eq_or_lt_of_le (Nat.le_of_lt_succ hc) with h | h
      · subst h
        have hl : ct f c = ct g c := ct_congr (fun d hd => ih d (by omega) hd)
        by_cases h0 : f c = 0
        · by_cases h1 : g c = 0
          · rw [h0, h1]
          · exact same_step hg hf (fun i hi => (hs i hi).symm) (fun k hkk => ⟨(hk k (by omega)).1.symm, (hk k (by omega)).2.symm⟩) (by omega) hl.symm h1
        · exact (same_step hf hg hs hk (by omega) hl h0).symm
      · exact ih c (by omega) h
  exact fun c hc => key 36 c (Nat.le_refl _) hc
theorem all36 {p : Nat → Bool} : (List.range 36).all p = true ↔ ∀ c, c < 36 → p c = true := by
  rw [List.all_eq_true]
  exact ⟨fun h c hc => h c (List.mem_range.mpr hc), fun h c hc => h c (List.mem_range.mp hc)⟩
theorem all36_t {p : Nat → Bool} (h : ∀ c, c < 36 → p c = true) : (List.range 36).all p = true := all36.mpr h
theorem all36_f {p : Nat → Bool} (h : ¬ ∀ c, c < 36 → p c = true) : (List.range 36).all p = false := by
  rcases Bool.eq_false_or_eq_true ((List.range 36).all p) with q | q
  · exact absurd (all36.mp q) h
  · exact q
set_option maxHeartbeats 8000000 in
theorem ctX_same (l : Launch) {D : va_G} {ad : Nat → Nat} {bd : Nat → ClassId} {S C V NS NC NV : Nat → Int32} {mk : Nat} {Wk : Nat → Int32} {a : Nat → Int32} {x y : Int32} (hR : Rep S C V a) : CtI l yX0_same cX0_same 6 (some .boolean) 2 D (tyX bd) [.ref (ad 0), .int x, .int y] (wX ad bd S C V NS NC NV mk Wk) (fun r (_ : Unit) => r = vSam a x y) (fun _ => wX ad bd S C V NS NC NV mk Wk) := by
  refine x_enterI (own := RX0) (by decide) rfl (Nat.le_of_ble_eq_true rfl) (by simp [Value.category]) ?_
  intro p e s m args below meth c A K hr hlocks
  obtain ⟨Q0, hQ0⟩ : ∃ Q0 : State → Prop, Q0 = XQi below args s D (tyX bd) A (fun r (_ : Unit) => r = vSam a x y) (fun _ => wX ad bd S C V NS NC NV mk Wk) := ⟨_, rfl⟩
  rw [← hQ0]
  refine x_iload_n K dX0_same_0 rfl ?_
  refine caX_isSlot K (by decide) (Nat.le_of_ble_eq_true rfl) dX0_same_1 ?_
  refine x_if_eqB K 14 dX0_same_4 (by decide) (fun h1 => ?_) (fun h1 => ?_)
  · skip
    refine x_iconst K (nI 0) dX0_same_14 (by decide) ?_
    rw [hQ0]
    exact x_zret K hr hlocks dX0_same_15 () (rfl) (by unfold vSam; simp [*]; rfl) (Or.inl rfl)
  · skip
    refine x_iload_n K dX0_same_7 rfl ?_
    refine caX_isSlot K (by decide) (Nat.le_of_ble_eq_true rfl) dX0_same_8 ?_
    refine x_if_neB K 16 dX0_same_11 (by decide) (fun h2 => ?_) (fun h2 => ?_)
    · skip
      obtain ⟨xn, hx, rfl⟩ := okb_of h1
      obtain ⟨yn, hy, rfl⟩ := okb_of h2
      obtain ⟨f, hfe⟩ : ∃ f, f = sl a xn := ⟨_, rfl⟩
      have hf := hR _ hx
      rw [← hfe] at hf
      obtain ⟨g, hge⟩ : ∃ g, g = sl a yn := ⟨_, rfl⟩
      have hg := hR _ hy
      rw [← hge] at hg
      have hval : vSam a (nI xn) (nI yn) = bI ((List.range 36).all (fun c => decide (f c = g c))) := by unfold vSam; rw [h1, h2, cN_nI (by omega), cN_nI (by omega), ← hfe, ← hge]; rfl
      have hno : (¬ ∀ c, c < 36 → f c = g c) → nI 0 = vSam a (nI xn) (nI yn) := fun h => by rw [hval, all36_f (fun z => h (fun c hc => of_decide_eq_true (z c hc)))]; rfl
      have l36 := ct_le f 36
      have key2 : ∀ (n : Nat) (k : Nat), k + n = ct f 36 → (∀ i, i ≤ 6 → ct f (6 * i) = ct g (6 * i)) → (∀ j, j < k → C (36 * xn + j) = C (36 * yn + j) ∧ V (36 * xn + j) = V (36 * yn + j)) → XW p l e (rD 2) s m args below meth c 0 0 Q0 D A 6 (wX ad bd S C V NS NC NV mk Wk) 59 [.ref (ad 0), .int (nI xn), .int (nI yn), .int (nI k)] [] := by
        intro n
        induction n with
        | zero =>
          intro k hk hs hkk
          refine x_iload_n K dX0_same_59 rfl ?_
          refine x_aload_n K dX0_same_60 rfl ?_
          refine gtS K dX0_same_61 ?_
          refine x_iload_n K dX0_same_64 rfl ?_
          refine x_bipush K (nI 7) dX0_same_65 (by decide) ?_
          refine x_imulN K dX0_same_67 ?_
          refine x_bipush K (nI 6) dX0_same_68 (by decide) ?_
          refine x_iaddN K dX0_same_70 ?_
          refine ldS K (7 * xn + 6) (by omega) (by omega) (x := (nI (ct f 36))) (hf.1 6 (Nat.le_refl 6)) dX0_same_71 ?_
          refine x_cmpN_ge K 133 dX0_same_72 (by decide) (by omega) (by omega) (fun _ => ?_) (fun q => absurd q (by omega))
          refine x_iconst K (nI 1) dX0_same_133 (by decide) ?_
          rw [hQ0]
          exact x_zret K hr hlocks dX0_same_134 () (rfl) (by rw [hval, all36_t (fun c hc => decide_eq_true (same_all hf hg hs (fun k h => hkk k (by omega)) c hc))]; rfl) (Or.inr rfl)
        | succ n ih =>
          intro k hk hs hkk
          have hbad : (C (36 * xn + k) = C (36 * yn + k) → V (36 * xn + k) ≠ V (36 * yn + k)) → ¬ ∀ c, c < 36 → f c = g c := by
            intro h z
            obtain ⟨c, -, c2, c3, c4⟩ := ct_inv (f := f) (m := 0) (n := 36) (k := k) (by omega) (Nat.zero_le _) (by omega)
            have a1 := hf.2 c c2 c3
            have a2 := hg.2 c c2 (by rw [← z c c2]; exact c3)
            rw [← ct_congr (f := f) (g := g) (n := c) (fun d hd => z d (by omega)), ← z c c2, c4] at a2
            rw [c4] at a1
            exact h (a1.1.trans a2.1.symm) (a1.2.trans a2.2.symm)
          refine x_iload_n K dX0_same_59 rfl ?_
          refine x_aload_n K dX0_same_60 rfl ?_
          refine gtS K dX0_same_61 ?_
          refine x_iload_n K dX0_same_64 rfl ?_
          refine x_bipush K (nI 7) dX0_same_65 (by decide) ?_
          refine x_imulN K dX0_same_67 ?_
          refine x_bipush K (nI 6) dX0_same_68 (by decide) ?_
          refine x_iaddN K dX0_same_70 ?_
          refine ldS K (7 * xn + 6) (by omega) (by omega) (x := (nI (ct f 36))) (hf.1 6 (Nat.le_refl 6)) dX0_same_71 ?_
          refine x_cmpN_ge K 133 dX0_same_72 (by decide) (by omega) (by omega) (fun q => absurd q (by omega)) (fun _ => ?_)
          refine x_iload_n K dX0_same_75 rfl ?_
          refine x_bipush K (nI 36) dX0_same_76 (by decide) ?_
          refine x_imulN K dX0_same_78 ?_
          refine x_iload_n K dX0_same_79 rfl ?_
          refine x_iaddN K dX0_same_80 ?_
          refine x_istore K [.ref (ad 0), .int (nI xn), .int (nI yn), .int (nI k), .int (nI ((xn * 36) + k))] dX0_same_81 (by decide) (Nat.le_of_ble_eq_true rfl) rfl ?_
          refine x_iload_n K dX0_same_83 rfl ?_
          refine x_bipush K (nI 36) dX0_same_84 (by decide) ?_
          refine x_imulN K dX0_same_86 ?_
          refine x_iload_n K dX0_same_87 rfl ?_
          refine x_iaddN K dX0_same_88 ?_
          refine x_istore K [.ref (ad 0), .int (nI xn), .int (nI yn), .int (nI k), .int (nI ((xn * 36) + k)), .int (nI ((yn * 36) + k))] dX0_same_89 (by decide) (Nat.le_of_ble_eq_true rfl) rfl ?_
          refine x_aload_n K dX0_same_91 rfl ?_
          refine gtC K dX0_same_92 ?_
          refine x_iload K dX0_same_95 rfl ?_
          refine ldC K (36 * xn + k) (by omega) (by omega) (x := (C (36 * xn + k))) (rfl) dX0_same_97 ?_
          refine x_aload_n K dX0_same_98 rfl ?_
          refine gtC K dX0_same_99 ?_
          refine x_iload K dX0_same_102 rfl ?_
          refine ldC K (36 * yn + k) (by omega) (by omega) (x := (C (36 * yn + k))) (rfl) dX0_same_104 ?_
          refine x_cmp_ne K 125 dX0_same_105 (by decide) (fun hc => ?_) (fun hc => ?_)
          · skip
            refine x_iconst K (nI 0) dX0_same_125 (by decide) ?_
            rw [hQ0]
            exact x_zret K hr hlocks dX0_same_126 () (rfl) (hno (hbad (fun z => absurd z hc))) (Or.inl rfl)
          · skip
            refine x_aload_n K dX0_same_108 rfl ?_
            refine gtV K dX0_same_109 ?_
            refine x_iload K dX0_same_112 rfl ?_
            refine ldV K (36 * xn + k) (by omega) (by omega) (x := (V (36 * xn + k))) (rfl) dX0_same_114 ?_
            refine x_aload_n K dX0_same_115 rfl ?_
            refine gtV K dX0_same_116 ?_
            refine x_iload K dX0_same_119 rfl ?_
            refine ldV K (36 * yn + k) (by omega) (by omega) (x := (V (36 * yn + k))) (rfl) dX0_same_121 ?_
            refine x_cmp_eq K 127 dX0_same_122 (by decide) (fun hv => ?_) (fun hv => ?_)
            · skip
              refine x_iinc1 K [.ref (ad 0), .int (nI xn), .int (nI yn), .int (nI (k + 1)), .int (nI ((xn * 36) + k)), .int (nI ((yn * 36) + k))] dX0_same_127 rfl (by decide) (Nat.le_of_ble_eq_true rfl) rfl ?_
              refine x_goto K 59 dX0_same_130 (by decide) ?_
              refine x_drop [.ref (ad 0), .int (nI xn), .int (nI yn), .int (nI (k + 1))] 4 rfl ?_
              refine ih (k + 1) (by omega) hs (fun j hj => ?_)
              by_cases hjk : j = k
              · subst hjk; exact ⟨hc, hv⟩
              · exact hkk j (by omega)
            · skip
              refine x_iconst K (nI 0) dX0_same_125 (by decide) ?_
              rw [hQ0]
              exact x_zret K hr hlocks dX0_same_126 () (rfl) (hno (hbad (fun _ => hv))) (Or.inl rfl)
      refine x_iconst K (nI 0) dX0_same_16 (by decide) ?_
      refine x_istore_n K [.ref (ad 0), .int (nI xn), .int (nI yn), .int (nI 0)] dX0_same_17 (by decide) (Nat.le_of_ble_eq_true rfl) rfl ?_
      have key1 : ∀ (n : Nat) (i : Nat), i + n = 7 → (∀ j, j < i → ct f (6 * j) = ct g (6 * j)) → XW p l e (rD 2) s m args below meth c 0 0 Q0 D A 6 (wX ad bd S C V NS NC NV mk Wk) 18 [.ref (ad 0), .int (nI xn), .int (nI yn), .int (nI i)] [] := by
        intro n
        induction n with
        | zero =>
          intro i hi hs
          refine x_iload_n K dX0_same_18 rfl ?_
          refine x_bipush K (nI 6) dX0_same_19 (by decide) ?_
          refine x_cmpN_gt K 57 dX0_same_21 (by decide) (by omega) (by omega) (fun _ => ?_) (fun q => absurd q (by omega))
          refine x_iconst K (nI 0) dX0_same_57 (by decide) ?_
          refine x_istore_n K [.ref (ad 0), .int (nI xn), .int (nI yn), .int (nI 0)] dX0_same_58 (by decide) (Nat.le_of_ble_eq_true rfl) rfl ?_
          exact key2 (ct f 36) 0 (by omega) (fun i hi => hs i (by omega)) (fun j hj => absurd hj (by omega))
        | succ n ih =>
          intro i hi hs
          have l1 := ct_le f (6 * i)
          have l2 := ct_le g (6 * i)
          refine x_iload_n K dX0_same_18 rfl ?_
          refine x_bipush K (nI 6) dX0_same_19 (by decide) ?_
          refine x_cmpN_gt K 57 dX0_same_21 (by decide) (by omega) (by omega) (fun q => absurd q (by omega)) (fun _ => ?_)
          refine x_aload_n K dX0_same_24 rfl ?_
          refine gtS K dX0_same_25 ?_
          refine x_iload_n K dX0_same_28 rfl ?_
          refine x_bipush K (nI 7) dX0_same_29 (by decide) ?_
          refine x_imulN K dX0_same_31 ?_
          refine x_iload_n K dX0_same_32 rfl ?_
          refine x_iaddN K dX0_same_33 ?_
          refine ldS K (7 * xn + i) (by omega) (by omega) (x := (nI (ct f (6 * i)))) (hf.1 i (by omega)) dX0_same_34 ?_
          refine x_aload_n K dX0_same_35 rfl ?_
          refine gtS K dX0_same_36 ?_
          refine x_iload_n K dX0_same_39 rfl ?_
          refine x_bipush K (nI 7) dX0_same_40 (by decide) ?_
          refine x_imulN K dX0_same_42 ?_
          refine x_iload_n K dX0_same_43 rfl ?_
          refine x_iaddN K dX0_same_44 ?_
          refine ldS K (7 * yn + i) (by omega) (by omega) (x := (nI (ct g (6 * i)))) (hg.1 i (by omega)) dX0_same_45 ?_
          refine x_cmpN_eq K 51 dX0_same_46 (by decide) (by omega) (by omega) (fun hc => ?_) (fun hc => ?_)
          · skip
            refine x_iinc1 K [.ref (ad 0), .int (nI xn), .int (nI yn), .int (nI (i + 1))] dX0_same_51 rfl (by decide) (Nat.le_of_ble_eq_true rfl) rfl ?_
            refine x_goto K 18 dX0_same_54 (by decide) ?_
            refine ih (i + 1) (by omega) (fun j hj => ?_)
            by_cases hji : j = i
            · rw [hji]; exact hc
            · exact hs j (by omega)
          · skip
            refine x_iconst K (nI 0) dX0_same_49 (by decide) ?_
            rw [hQ0]
            exact x_zret K hr hlocks dX0_same_50 () (rfl) (hno (fun z => hc (ct_congr (fun d hd => z d (by omega))))) (Or.inl rfl)
      exact key1 7 0 (by omega) (fun j hj => absurd hj (by omega))
    · skip
      refine x_iconst K (nI 0) dX0_same_14 (by decide) ?_
      rw [hQ0]
      exact x_zret K hr hlocks dX0_same_15 () (rfl) (by unfold vSam; simp [*]; rfl) (Or.inl rfl)
set_option maxHeartbeats 8000000 in
theorem ctX_symmetric (l : Launch) {D : va_G} {ad : Nat → Nat} {bd : Nat → ClassId} {S C V NS NC NV : Nat → Int32} {mk : Nat} {Wk : Nat → Int32} {a : Nat → Int32} {t : Int32} (hR : Rep S C V a) : CtI l yX0_symmetric cX0_symmetric 5 (some .boolean) 2 D (tyX bd) [.ref (ad 0), .int t] (wX ad bd S C V NS NC NV mk Wk) (fun r (_ : Unit) => r = vSym a t) (fun _ => wX ad bd S C V NS NC NV mk Wk) := by
  refine x_enterI (own := RX0) (by decide) rfl (Nat.le_of_ble_eq_true rfl) (by simp [Value.category]) ?_
  intro p e s m args below meth c A K hr hlocks
  obtain ⟨Q0, hQ0⟩ : ∃ Q0 : State → Prop, Q0 = XQi below args s D (tyX bd) A (fun r (_ : Unit) => r = vSym a t) (fun _ => wX ad bd S C V NS NC NV mk Wk) := ⟨_, rfl⟩
  rw [← hQ0]
  refine x_iload_n K dX0_symmetric_0 rfl ?_
  refine caX_isSlot K (by decide) (Nat.le_of_ble_eq_true rfl) dX0_symmetric_1 ?_
  refine x_if_neB K 9 dX0_symmetric_4 (by decide) (fun h1 => ?_) (fun h1 => ?_)
  · skip
    obtain ⟨tn, ht, rfl⟩ := okb_of h1
    obtain ⟨f, hfe⟩ : ∃ f, f = sl a tn := ⟨_, rfl⟩
    have hf := hR _ ht
    rw [← hfe] at hf
    have hval : vSym a (nI tn) = bI ((List.range 36).all (fun c => decide (f (6 * (c / 6) + c % 6) = f (6 * (c % 6) + c / 6)))) := by unfold vSym; rw [h1, cN_nI (by omega), ← hfe]; rfl
    have hno : ∀ i j, i < 6 → j < 6 → f (6 * i + j) ≠ f (6 * j + i) → nI 0 = vSym a (nI tn) := fun i j h1 h2 h3 => by
      rw [hval, all36_f]
      · rfl
      · intro z
        have z1 := of_decide_eq_true (z (6 * i + j) (by omega))
        rw [show (6 * i + j) / 6 = i by omega, show (6 * i + j) % 6 = j by omega] at z1
        exact h3 z1
    refine x_iconst K (nI 0) dX0_symmetric_9 (by decide) ?_
    refine x_istore_n K [.ref (ad 0), .int (nI tn), .int (nI 0)] dX0_symmetric_10 (by decide) (Nat.le_of_ble_eq_true rfl) rfl ?_
    have key : ∀ (n : Nat) (i : Nat), i + n = 6 → (∀ i1 j1, i1 < i → j1 < 6 → f (6 * i1 + j1) ≠ 0 → f (6 * i1 + j1) = f (6 * j1 + i1)) → XW p l e (rD 2) s m args below meth c 0 0 Q0 D A 5 (wX ad bd S C V NS NC NV mk Wk) 11 [.ref (ad 0), .int (nI tn), .int (nI i)] [] := by
      intro n
      induction n with
      | zero =>
        intro i hi hs
        obtain rfl : i = 6 := by omega
        refine x_iload_n K dX0_symmetric_11 rfl ?_
        refine x_bipush K (nI 6) dX0_symmetric_12 (by decide) ?_
        refine x_cmpN_ge K 83 dX0_symmetric_14 (by decide) (by omega) (by omega) (fun _ => ?_) (fun q => absurd q (by omega))
        refine x_iconst K (nI 1) dX0_symmetric_83 (by decide) ?_
        have hsym : ∀ i j, i < 6 → j < 6 → f (6 * i + j) = f (6 * j + i) := by
          intro i j h1 h2
          by_cases h0 : f (6 * i + j) = 0
          · by_cases h3 : f (6 * j + i) = 0
            · rw [h0, h3]
            · exact (hs j i h2 h1 h3).symm
          · exact hs i j h1 h2 h0
        rw [hQ0]
        exact x_zret K hr hlocks dX0_symmetric_84 () (rfl) (by rw [hval, all36_t (fun c hc => decide_eq_true (hsym _ _ (by omega) (by omega)))]; rfl) (Or.inr rfl)
      | succ n ih =>
        intro i hi hs
        have hi6 : i < 6 := by omega
        refine x_iload_n K dX0_symmetric_11 rfl ?_
        refine x_bipush K (nI 6) dX0_symmetric_12 (by decide) ?_
        refine x_cmpN_ge K 83 dX0_symmetric_14 (by decide) (by omega) (by omega) (fun q => absurd q (by omega)) (fun _ => ?_)
        refine x_aload_n K dX0_symmetric_17 rfl ?_
        refine x_iload_n K dX0_symmetric_18 rfl ?_
        refine x_iload_n K dX0_symmetric_19 rfl ?_
        refine caX_from K (by decide) hf ht hi6 (Nat.le_of_ble_eq_true rfl) dX0_symmetric_20 ?_
        refine x_istore_n K [.ref (ad 0), .int (nI tn), .int (nI i), .int (nI (36 * tn + ct f (6 * i)))] dX0_symmetric_23 (by decide) (Nat.le_of_ble_eq_true rfl) rfl ?_
        have key2 : ∀ (n2 : Nat) (j : Nat), j ≤ 6 → 6 < j + n2 → (∀ j1, j1 < j → f (6 * i + j1) ≠ 0 → f (6 * i + j1) = f (6 * j1 + i)) → XW p l e (rD 2) s m args below meth c 0 0 Q0 D A 5 (wX ad bd S C V NS NC NV mk Wk) 24 [.ref (ad 0), .int (nI tn), .int (nI i), .int (nI (36 * tn + ct f (6 * i + j)))] [] := by
          intro n2
          induction n2 with
          | zero =>
            intro j hj hn hs2
            exact absurd hn (by omega)
          | succ n2 ih2 =>
            intro j hj hn hs2
            have l1 := ct_row_le (f := f) hi6 hj
            have l3 := ct_row_le (f := f) hi6 (Nat.le_refl 6)
            rcases it_row hf hi6 hj with ⟨e1, zf⟩ | ⟨j1, a1, a2, a3, a4, a5, a6, a7, a8⟩
            · skip
              refine x_iload_n K dX0_symmetric_24 rfl ?_
              refine x_aload_n K dX0_symmetric_25 rfl ?_
              refine x_iload_n K dX0_symmetric_26 rfl ?_
              refine x_iload_n K dX0_symmetric_27 rfl ?_
              refine caX_upTo K (by decide) hf ht hi6 (Nat.le_of_ble_eq_true rfl) dX0_symmetric_28 ?_
              refine x_cmpN_ge K 77 dX0_symmetric_31 (by decide) (by omega) (by omega) (fun _ => ?_) (fun q => absurd q (by omega))
              refine x_iinc1 K [.ref (ad 0), .int (nI tn), .int (nI (i + 1)), .int (nI (36 * tn + ct f (6 * i + j)))] dX0_symmetric_77 rfl (by decide) (Nat.le_of_ble_eq_true rfl) rfl ?_
              refine x_goto K 11 dX0_symmetric_80 (by decide) ?_
              refine x_drop [.ref (ad 0), .int (nI tn), .int (nI (i + 1))] 3 rfl ?_
              refine ih (i + 1) (by omega) (fun i1 j1 h1 h2 h3 => ?_)
              by_cases hii : i1 = i
              · subst hii
                by_cases hjj : j1 < j
                · exact hs2 j1 hjj h3
                · exact absurd (zf j1 (by omega) h2) h3
              · exact hs i1 j1 (by omega) h2 h3
            · skip
              have m1 := ct_row_le (f := f) a2 (Nat.le_of_lt hi6)
              by_cases h0 : f (6 * j1 + i) = 0
              · skip
                refine x_iload_n K dX0_symmetric_24 rfl ?_
                refine x_aload_n K dX0_symmetric_25 rfl ?_
                refine x_iload_n K dX0_symmetric_26 rfl ?_
                refine x_iload_n K dX0_symmetric_27 rfl ?_
                refine caX_upTo K (by decide) hf ht hi6 (Nat.le_of_ble_eq_true rfl) dX0_symmetric_28 ?_
                refine x_cmpN_ge K 77 dX0_symmetric_31 (by decide) (by omega) (by omega) (fun q => absurd q (by omega)) (fun _ => ?_)
                refine x_aload_n K dX0_symmetric_34 rfl ?_
                refine x_iload_n K dX0_symmetric_35 rfl ?_
                refine x_aload_n K dX0_symmetric_36 rfl ?_
                refine gtC K dX0_symmetric_37 ?_
                refine x_iload_n K dX0_symmetric_40 rfl ?_
                refine ldC K (36 * tn + ct f (6 * i + j)) (rfl) (by omega) (x := (nI j1)) (a6) dX0_symmetric_41 ?_
                refine x_iload_n K dX0_symmetric_42 rfl ?_
                refine caX_find0 K (by decide) ht a2 hi6 hf h0 (Nat.le_of_ble_eq_true rfl) dX0_symmetric_43 ?_
                refine x_istore K [.ref (ad 0), .int (nI tn), .int (nI i), .int (nI (36 * tn + ct f (6 * i + j))), .int ((-1))] dX0_symmetric_46 (by decide) (Nat.le_of_ble_eq_true rfl) rfl ?_
                refine x_iload K dX0_symmetric_48 rfl ?_
                refine x_if_lt K 69 dX0_symmetric_50 (by decide) (fun _ => ?_) (fun q => absurd q (fun z => z (by decide)))
                refine x_iconst K (nI 0) dX0_symmetric_69 (by decide) ?_
                rw [hQ0]
                exact x_zret K hr hlocks dX0_symmetric_70 () (rfl) (hno i j1 hi6 a2 (by rw [h0]; exact a3)) (Or.inl rfl)
              · skip
                refine x_iload_n K dX0_symmetric_24 rfl ?_
                refine x_aload_n K dX0_symmetric_25 rfl ?_
                refine x_iload_n K dX0_symmetric_26 rfl ?_
                refine x_iload_n K dX0_symmetric_27 rfl ?_
                refine caX_upTo K (by decide) hf ht hi6 (Nat.le_of_ble_eq_true rfl) dX0_symmetric_28 ?_
                refine x_cmpN_ge K 77 dX0_symmetric_31 (by decide) (by omega) (by omega) (fun q => absurd q (by omega)) (fun _ => ?_)
                refine x_aload_n K dX0_symmetric_34 rfl ?_
                refine x_iload_n K dX0_symmetric_35 rfl ?_
                refine x_aload_n K dX0_symmetric_36 rfl ?_
                refine gtC K dX0_symmetric_37 ?_
                refine x_iload_n K dX0_symmetric_40 rfl ?_
                refine ldC K (36 * tn + ct f (6 * i + j)) (rfl) (by omega) (x := (nI j1)) (a6) dX0_symmetric_41 ?_
                refine x_iload_n K dX0_symmetric_42 rfl ?_
                refine caX_find1 K (by decide) ht a2 hi6 hf h0 (Nat.le_of_ble_eq_true rfl) dX0_symmetric_43 ?_
                refine x_istore K [.ref (ad 0), .int (nI tn), .int (nI i), .int (nI (36 * tn + ct f (6 * i + j))), .int (nI (36 * tn + ct f (6 * j1 + i)))] dX0_symmetric_46 (by decide) (Nat.le_of_ble_eq_true rfl) rfl ?_
                refine x_iload K dX0_symmetric_48 rfl ?_
                refine x_if_lt K 69 dX0_symmetric_50 (by decide) (fun q => absurd q (nI_pos (by omega))) (fun _ => ?_)
                refine x_aload_n K dX0_symmetric_53 rfl ?_
                refine gtV K dX0_symmetric_54 ?_
                refine x_iload K dX0_symmetric_57 rfl ?_
                refine ldV K (36 * tn + ct f (6 * j1 + i)) (rfl) (by have := ct_lt (f := f) (show 6 * j1 + i < 36 by omega) h0; have := ct_le f 36; omega) (x := (f (6 * j1 + i))) ((hf.2 _ (by omega) h0).2) dX0_symmetric_59 ?_
                refine x_aload_n K dX0_symmetric_60 rfl ?_
                refine gtV K dX0_symmetric_61 ?_
                refine x_iload_n K dX0_symmetric_64 rfl ?_
                refine ldV K (36 * tn + ct f (6 * i + j)) (rfl) (by omega) (x := (f (6 * i + j1))) (a7) dX0_symmetric_65 ?_
                refine x_cmp_eq K 71 dX0_symmetric_66 (by decide) (fun hv => ?_) (fun hv => ?_)
                · skip
                  refine x_iinc1 K [.ref (ad 0), .int (nI tn), .int (nI i), .int (nI (36 * tn + ct f (6 * i + j) + 1)), .int (nI (36 * tn + ct f (6 * j1 + i)))] dX0_symmetric_71 rfl (by decide) (Nat.le_of_ble_eq_true rfl) rfl ?_
                  refine x_goto K 24 dX0_symmetric_74 (by decide) ?_
                  refine x_drop [.ref (ad 0), .int (nI tn), .int (nI i), .int (nI (36 * tn + ct f (6 * i + j) + 1))] 4 rfl ?_
                  rw [show 36 * tn + ct f (6 * i + j) + 1 = 36 * tn + ct f (6 * i + (j1 + 1)) by omega]
                  refine ih2 (j1 + 1) (by omega) (by omega) (fun d h1 h2 => ?_)
                  by_cases hdj : d = j1
                  · subst hdj; exact hv.symm
                  · by_cases hdj2 : d < j
                    · exact hs2 d hdj2 h2
                    · exact absurd (a4 d (by omega) (by omega)) h2
                · skip
                  refine x_iconst K (nI 0) dX0_symmetric_69 (by decide) ?_
                  rw [hQ0]
                  exact x_zret K hr hlocks dX0_symmetric_70 () (rfl) (hno i j1 hi6 a2 (fun z => hv z.symm)) (Or.inl rfl)
        exact key2 7 0 (by omega) (by omega) (fun j1 h => absurd h (by omega))
    exact key 6 0 (by omega) (fun i1 j1 h => absurd h (by omega))
  · skip
    refine x_iconst K (nI 0) dX0_symmetric_7 (by decide) ?_
    rw [hQ0]
    exact x_zret K hr hlocks dX0_symmetric_8 () (rfl) (by unfold vSym; rw [h1]; rfl) (Or.inl rfl)
end
section
set_option maxRecDepth 100000
/-! SparseKernelsModel: slot, line, cell, entry, count, keep, put and the calls that make a matrix -/
set_option maxHeartbeats 4000000 in
theorem ctM_slot (l : Launch) {D : va_G} {ad : Nat → Nat} {bd : Nat → ClassId} {a b : Nat → Int32} {x : Int32} : CtI l yX1_slot cX1_slot 2 (some .boolean) 0 D (tyM bd) [.ref (ad 0), .int x] (wM ad bd a b) (fun r (_ : Unit) => r = bI (okb 5 x)) (fun _ => wM ad bd a b) := by
  refine x_enterI (own := RX1) (by decide) rfl (Nat.le_of_ble_eq_true rfl) (by simp [Value.category]) ?_
  intro p e s m args below meth c A K hr hlocks
  refine x_iload_n K dX1_slot_0 rfl ?_
  refine x_if_lt K 13 dX1_slot_1 (by decide) (fun h => ?_) (fun h => ?_)
  · skip
    refine x_iconst K (nI 0) dX1_slot_13 (by decide) ?_
    exact x_zret K hr hlocks dX1_slot_14 () (rfl) (by rw [okb_neg h]; rfl) (Or.inl rfl)
  · skip
    obtain ⟨j, hj, rfl⟩ := nI_of h
    refine x_iload_n K dX1_slot_4 rfl ?_
    refine x_iconst K (nI 4) dX1_slot_5 (by decide) ?_
    refine x_cmpN_gt K 13 dX1_slot_6 (by decide) (by omega) (by omega) (fun h2 => ?_) (fun h2 => ?_)
    · skip
      refine x_iconst K (nI 0) dX1_slot_13 (by decide) ?_
      exact x_zret K hr hlocks dX1_slot_14 () (rfl) (by rw [okb_nI hj, decide_eq_false (by omega)]; rfl) (Or.inl rfl)
    · skip
      refine x_iconst K (nI 1) dX1_slot_9 (by decide) ?_
      refine x_goto K 14 dX1_slot_10 (by decide) ?_
      exact x_zret K hr hlocks dX1_slot_14 () (rfl) (by rw [okb_nI hj, decide_eq_true (by omega)]; rfl) (Or.inr rfl)
theorem caM_slot {p : Program} {l : Launch} {e : Env} {R : Room} {s : State} {m : MethodId} {args : Array Value} {below : List Frame} {meth : Method} {c : Code} {cells slots : Nat} {Q : State → Prop} {cc : ByteArray} {pc nL dR : Nat} {st : List Value} {lv : List Value} {A : Nat → Prop} {D : va_G} {ad : Nat → Nat} {bd : Nat → ClassId} {a b : Nat → Int32} (K : XC p R s m args c cells slots D A (tyM bd) nL cc RX1 dR) (hdR : 1 ≤ dR) {x : Int32} (hroom : (st.map fun v => v.category).sum ≤ 8) (hdg : decode cc pc = .ok (.invokevirtual 16, 3)) (kk : XW p l e R s m args below meth c cells slots Q D A nL (wM ad bd a b) (pc + 3) lv (.int (bI (okb 5 x)) :: st)) : XW p l e R s m args below meth c cells slots Q D A nL (wM ad bd a b) pc lv (.int x :: .ref (ad 0) :: st) :=
  x_callI (n := 1) K (ctM_slot l (x := x)) q186 q188 qs12 q19 q189 (by decide +kernel) hdR (by decide) rfl rfl rfl rfl hroom hdg (fun r _ h => by rw [h]; exact kk)
set_option maxHeartbeats 4000000 in
theorem ctM_line (l : Launch) {D : va_G} {ad : Nat → Nat} {bd : Nat → ClassId} {a b : Nat → Int32} {x : Int32} : CtI l yX1_line cX1_line 2 (some .boolean) 0 D (tyM bd) [.ref (ad 0), .int x] (wM ad bd a b) (fun r (_ : Unit) => r = bI (okb 6 x)) (fun _ => wM ad bd a b) := by
  refine x_enterI (own := RX1) (by decide) rfl (Nat.le_of_ble_eq_true rfl) (by simp [Value.category]) ?_
  intro p e s m args below meth c A K hr hlocks
  refine x_iload_n K dX1_line_0 rfl ?_
  refine x_if_lt K 13 dX1_line_1 (by decide) (fun h => ?_) (fun h => ?_)
  · skip
    refine x_iconst K (nI 0) dX1_line_13 (by decide) ?_
    exact x_zret K hr hlocks dX1_line_14 () (rfl) (by rw [okb_neg h]; rfl) (Or.inl rfl)
  · skip
    obtain ⟨j, hj, rfl⟩ := nI_of h
    refine x_iload_n K dX1_line_4 rfl ?_
    refine x_iconst K (nI 5) dX1_line_5 (by decide) ?_
    refine x_cmpN_gt K 13 dX1_line_6 (by decide) (by omega) (by omega) (fun h2 => ?_) (fun h2 => ?_)
    · skip
      refine x_iconst K (nI 0) dX1_line_13 (by decide) ?_
      exact x_zret K hr hlocks dX1_line_14 () (rfl) (by rw [okb_nI hj, decide_eq_false (by omega)]; rfl) (Or.inl rfl)
    · skip
      refine x_iconst K (nI 1) dX1_line_9 (by decide) ?_
      refine x_goto K 14 dX1_line_10 (by decide) ?_
      exact x_zret K hr hlocks dX1_line_14 () (rfl) (by rw [okb_nI hj, decide_eq_true (by omega)]; rfl) (Or.inr rfl)
theorem caM_line {p : Program} {l : Launch} {e : Env} {R : Room} {s : State} {m : MethodId} {args : Array Value} {below : List Frame} {meth : Method} {c : Code} {cells slots : Nat} {Q : State → Prop} {cc : ByteArray} {pc nL dR : Nat} {st : List Value} {lv : List Value} {A : Nat → Prop} {D : va_G} {ad : Nat → Nat} {bd : Nat → ClassId} {a b : Nat → Int32} (K : XC p R s m args c cells slots D A (tyM bd) nL cc RX1 dR) (hdR : 1 ≤ dR) {x : Int32} (hroom : (st.map fun v => v.category).sum ≤ 8) (hdg : decode cc pc = .ok (.invokevirtual 20, 3)) (kk : XW p l e R s m args below meth c cells slots Q D A nL (wM ad bd a b) (pc + 3) lv (.int (bI (okb 6 x)) :: st)) : XW p l e R s m args below meth c cells slots Q D A nL (wM ad bd a b) pc lv (.int x :: .ref (ad 0) :: st) :=
  x_callI (n := 1) K (ctM_line l (x := x)) q190 q192 qs13 q19 q193 (by decide +kernel) hdR (by decide) rfl rfl rfl rfl hroom hdg (fun r _ h => by rw [h]; exact kk)
set_option maxHeartbeats 4000000 in
theorem ctM_cell (l : Launch) {D : va_G} {ad : Nat → Nat} {bd : Nat → ClassId} {a b : Nat → Int32} {x i j : Nat} (hx : x < 5) (hi : i < 6) (hj : j < 6) : CtI l yX1_cell cX1_cell 4 (some .int) 0 D (tyM bd) [.ref (ad 0), .int (nI x), .int (nI i), .int (nI j)] (wM ad bd a b) (fun r (_ : Unit) => r = sl a x (6 * i + j)) (fun _ => wM ad bd a b) := by
  refine x_enterI (own := RX1) (by decide) rfl (Nat.le_of_ble_eq_true rfl) (by simp [Value.category]) ?_
  intro p e s m args below meth c A K hr hlocks
  refine x_aload_n K dX1_cell_0 rfl ?_
  refine gtA K dX1_cell_1 ?_
  refine x_bipush K (nI 36) dX1_cell_4 (by decide) ?_
  refine x_iload_n K dX1_cell_6 rfl ?_
  refine x_imulN K dX1_cell_7 ?_
  refine x_bipush K (nI 6) dX1_cell_8 (by decide) ?_
  refine x_iload_n K dX1_cell_10 rfl ?_
  refine x_imulN K dX1_cell_11 ?_
  refine x_iaddN K dX1_cell_12 ?_
  refine x_iload_n K dX1_cell_13 rfl ?_
  refine x_iaddN K dX1_cell_14 ?_
  refine ldA K (36 * x + (6 * i + j)) (by omega) (by omega) (x := (sl a x (6 * i + j))) (rfl) dX1_cell_15 ?_
  exact x_iret K hr hlocks dX1_cell_16 () (rfl) (rfl)
theorem caM_cell {p : Program} {l : Launch} {e : Env} {R : Room} {s : State} {m : MethodId} {args : Array Value} {below : List Frame} {meth : Method} {c : Code} {cells slots : Nat} {Q : State → Prop} {cc : ByteArray} {pc nL dR : Nat} {st : List Value} {lv : List Value} {A : Nat → Prop} {D : va_G} {ad : Nat → Nat} {bd : Nat → ClassId} {a b : Nat → Int32} (K : XC p R s m args c cells slots D A (tyM bd) nL cc RX1 dR) (hdR : 1 ≤ dR) {x i j : Nat} (hx : x < 5) (hi : i < 6) (hj : j < 6) (hroom : (st.map fun v => v.category).sum ≤ 8) (hdg : decode cc pc = .ok (.invokevirtual 30, 3)) (kk : XW p l e R s m args below meth c cells slots Q D A nL (wM ad bd a b) (pc + 3) lv (.int (sl a x (6 * i + j)) :: st)) : XW p l e R s m args below meth c cells slots Q D A nL (wM ad bd a b) pc lv (.int (nI j) :: .int (nI i) :: .int (nI x) :: .ref (ad 0) :: st) :=
  x_callI (n := 3) K (ctM_cell l hx hi hj) q218 q220 qs16 q19 q221 (by decide +kernel) hdR (by decide) rfl rfl rfl rfl hroom hdg (fun r _ h => by rw [h]; exact kk)
set_option maxHeartbeats 4000000 in
theorem ctM_entry (l : Launch) {D : va_G} {ad : Nat → Nat} {bd : Nat → ClassId} {a b : Nat → Int32} {x y i j : Nat} (hx : x < 5) (hy : y < 5) (hi : i < 6) (hj : j < 6) : CtI l yX1_entry cX1_entry 7 (some .int) 1 D (tyM bd) [.ref (ad 0), .int (nI x), .int (nI y), .int (nI i), .int (nI j)] (wM ad bd a b) (fun r (_ : Unit) => r = en (sl a x) (sl a y) i j) (fun _ => wM ad bd a b) := by
  refine x_enterI (own := RX1) (by decide) rfl (Nat.le_of_ble_eq_true rfl) (by simp [Value.category]) ?_
  intro p e s m args below meth c A K hr hlocks
  obtain ⟨Q0, hQ0⟩ : ∃ Q0 : State → Prop, Q0 = XQi below args s D (tyM bd) A (fun r (_ : Unit) => r = en (sl a x) (sl a y) i j) (fun _ => wM ad bd a b) := ⟨_, rfl⟩
  rw [← hQ0]
  refine x_iconst K (nI 0) dX1_entry_0 (by decide) ?_
  refine x_istore K [.ref (ad 0), .int (nI x), .int (nI y), .int (nI i), .int (nI j), .int (nI 0)] dX1_entry_1 (by decide) (Nat.le_of_ble_eq_true rfl) rfl ?_
  refine x_iconst K (nI 0) dX1_entry_3 (by decide) ?_
  refine x_istore K [.ref (ad 0), .int (nI x), .int (nI y), .int (nI i), .int (nI j), .int (nI 0), .int (nI 0)] dX1_entry_4 (by decide) (Nat.le_of_ble_eq_true rfl) rfl ?_
  have key : ∀ (n : Nat) (k : Nat) (sv : Int32), k + n = 6 → sv = sm (fun k => sl a x (6 * i + k) * sl a y (6 * k + j)) k → XW p l e (rD 1) s m args below meth c 0 0 Q0 D A 7 (wM ad bd a b) 6 [.ref (ad 0), .int (nI x), .int (nI y), .int (nI i), .int (nI j), .int sv, .int (nI k)] [] := by
    intro n
    induction n with
    | zero =>
      intro k sv hk hsv
      obtain rfl : k = 6 := by omega
      refine x_iload K dX1_entry_6 rfl ?_
      refine x_bipush K (nI 6) dX1_entry_8 (by decide) ?_
      refine x_cmpN_ge K 42 dX1_entry_10 (by decide) (by omega) (by omega) (fun _ => ?_) (fun q => absurd q (by omega))
      refine x_iload K dX1_entry_42 rfl ?_
      rw [hQ0]
      exact x_iret K hr hlocks dX1_entry_44 () (rfl) (hsv)
    | succ n ih =>
      intro k sv hk hsv
      refine x_iload K dX1_entry_6 rfl ?_
      refine x_bipush K (nI 6) dX1_entry_8 (by decide) ?_
      refine x_cmpN_ge K 42 dX1_entry_10 (by decide) (by omega) (by omega) (fun q => absurd q (by omega)) (fun _ => ?_)
      refine x_iload K dX1_entry_13 rfl ?_
      refine x_aload_n K dX1_entry_15 rfl ?_
      refine x_iload_n K dX1_entry_16 rfl ?_
      refine x_iload_n K dX1_entry_17 rfl ?_
      refine x_iload K dX1_entry_18 rfl ?_
      refine caM_cell K (by decide) hx (hi) (by omega) (Nat.le_of_ble_eq_true rfl) dX1_entry_20 ?_
      refine x_aload_n K dX1_entry_23 rfl ?_
      refine x_iload_n K dX1_entry_24 rfl ?_
      refine x_iload K dX1_entry_25 rfl ?_
      refine x_iload K dX1_entry_27 rfl ?_
      refine caM_cell K (by decide) hy (by omega) (hj) (Nat.le_of_ble_eq_true rfl) dX1_entry_29 ?_
      refine x_imul K dX1_entry_32 ?_
      refine x_iadd K dX1_entry_33 ?_
      refine x_istore K [.ref (ad 0), .int (nI x), .int (nI y), .int (nI i), .int (nI j), .int (sv + ((((sl a x (6 * i + k))) * ((sl a y (6 * k + j)))))), .int (nI k)] dX1_entry_34 (by decide) (Nat.le_of_ble_eq_true rfl) rfl ?_
      refine x_iinc1 K [.ref (ad 0), .int (nI x), .int (nI y), .int (nI i), .int (nI j), .int (sv + ((((sl a x (6 * i + k))) * ((sl a y (6 * k + j)))))), .int (nI (k + 1))] dX1_entry_36 rfl (by decide) (Nat.le_of_ble_eq_true rfl) rfl ?_
      refine x_goto K 6 dX1_entry_39 (by decide) ?_
      exact ih (k + 1) _ (by omega) (by rw [hsv]; rfl)
  exact key 6 0 _ (by omega) rfl
theorem caM_entry {p : Program} {l : Launch} {e : Env} {R : Room} {s : State} {m : MethodId} {args : Array Value} {below : List Frame} {meth : Method} {c : Code} {cells slots : Nat} {Q : State → Prop} {cc : ByteArray} {pc nL dR : Nat} {st : List Value} {lv : List Value} {A : Nat → Prop} {D : va_G} {ad : Nat → Nat} {bd : Nat → ClassId} {a b : Nat → Int32} (K : XC p R s m args c cells slots D A (tyM bd) nL cc RX1 dR) (hdR : 2 ≤ dR) {x y i j : Nat} (hx : x < 5) (hy : y < 5) (hi : i < 6) (hj : j < 6) (hroom : (st.map fun v => v.category).sum ≤ 8) (hdg : decode cc pc = .ok (.invokevirtual 34, 3)) (kk : XW p l e R s m args below meth c cells slots Q D A nL (wM ad bd a b) (pc + 3) lv (.int (en (sl a x) (sl a y) i j) :: st)) : XW p l e R s m args below meth c cells slots Q D A nL (wM ad bd a b) pc lv (.int (nI j) :: .int (nI i) :: .int (nI y) :: .int (nI x) :: .ref (ad 0) :: st) :=
  x_callI (n := 4) K (ctM_entry l hx hy hi hj) q214 q216 qs15 q19 q217 (by decide +kernel) hdR (by decide) rfl rfl rfl rfl hroom hdg (fun r _ h => by rw [h]; exact kk)
set_option maxHeartbeats 4000000 in
theorem ctM_count (l : Launch) {D : va_G} {ad : Nat → Nat} {bd : Nat → ClassId} {a b : Nat → Int32} {t : Int32} : CtI l yX1_count cX1_count 4 (some .int) 1 D (tyM bd) [.ref (ad 0), .int t] (wM ad bd a b) (fun r (_ : Unit) => r = vCnt a t) (fun _ => wM ad bd a b) := by
  refine x_enterI (own := RX1) (by decide) rfl (Nat.le_of_ble_eq_true rfl) (by simp [Value.category]) ?_
  intro p e s m args below meth c A K hr hlocks
  obtain ⟨Q0, hQ0⟩ : ∃ Q0 : State → Prop, Q0 = XQi below args s D (tyM bd) A (fun r (_ : Unit) => r = vCnt a t) (fun _ => wM ad bd a b) := ⟨_, rfl⟩
  rw [← hQ0]
  rcases Bool.eq_false_or_eq_true (okb 5 t) with h1 | h1
  · skip
    obtain ⟨tn, ht, rfl⟩ := okb_of h1
    refine x_iconst K (nI 0) dX1_count_0 (by decide) ?_
    refine x_istore_n K [.ref (ad 0), .int (nI tn), .int (nI 0)] dX1_count_1 (by decide) (Nat.le_of_ble_eq_true rfl) rfl ?_
    refine x_iconst K (nI 0) dX1_count_2 (by decide) ?_
    refine x_istore_n K [.ref (ad 0), .int (nI tn), .int (nI 0), .int (nI 0)] dX1_count_3 (by decide) (Nat.le_of_ble_eq_true rfl) rfl ?_
    have key : ∀ (n : Nat) (k : Nat), k + n = 36 → XW p l e (rD 1) s m args below meth c 0 0 Q0 D A 4 (wM ad bd a b) 4 [.ref (ad 0), .int (nI tn), .int (nI (ct (sl a tn) k)), .int (nI k)] [] := by
      intro n
      induction n with
      | zero =>
        intro k hk
        obtain rfl : k = 36 := by omega
        refine x_iload_n K dX1_count_4 rfl ?_
        refine x_bipush K (nI 36) dX1_count_5 (by decide) ?_
        refine x_cmpN_ge K 46 dX1_count_7 (by decide) (by omega) (by omega) (fun _ => ?_) (fun q => absurd q (by omega))
        refine x_aload_n K dX1_count_46 rfl ?_
        refine x_iload_n K dX1_count_47 rfl ?_
        refine caM_slot K (by decide) (Nat.le_of_ble_eq_true rfl) dX1_count_48 ?_
        refine x_if_eqB K 58 dX1_count_51 (by decide) (fun q => absurd q (by rw [h1]; decide)) (fun _ => ?_)
        refine x_iload_n K dX1_count_54 rfl ?_
        refine x_goto K 59 dX1_count_55 (by decide) ?_
        rw [hQ0]
        exact x_iret K hr hlocks dX1_count_59 () (rfl) (by unfold vCnt; rw [h1, if_pos rfl, cN_nI (by omega)])
      | succ n ih =>
        intro k hk
        by_cases h0 : sl a tn k = 0
        · skip
          refine x_iload_n K dX1_count_4 rfl ?_
          refine x_bipush K (nI 36) dX1_count_5 (by decide) ?_
          refine x_cmpN_ge K 46 dX1_count_7 (by decide) (by omega) (by omega) (fun q => absurd q (by omega)) (fun _ => ?_)
          refine x_aload_n K dX1_count_10 rfl ?_
          refine x_iload_n K dX1_count_11 rfl ?_
          refine caM_slot K (by decide) (Nat.le_of_ble_eq_true rfl) dX1_count_12 ?_
          refine x_if_eqB K 46 dX1_count_15 (by decide) (fun q => absurd q (by rw [h1]; decide)) (fun _ => ?_)
          refine x_aload_n K dX1_count_18 rfl ?_
          refine gtA K dX1_count_19 ?_
          refine x_bipush K (nI 36) dX1_count_22 (by decide) ?_
          refine x_iload_n K dX1_count_24 rfl ?_
          refine x_imulN K dX1_count_25 ?_
          refine x_iload_n K dX1_count_26 rfl ?_
          refine x_iaddN K dX1_count_27 ?_
          refine ldA K (36 * tn + k) (by omega) (by omega) (x := (sl a tn k)) (rfl) dX1_count_28 ?_
          refine x_if_eq K 38 dX1_count_29 (by decide) (fun _ => ?_) (fun q => absurd q (fun z => z h0))
          refine x_iload_n K dX1_count_38 rfl ?_
          refine x_istore_n K [.ref (ad 0), .int (nI tn), .int (nI (ct (sl a tn) k)), .int (nI k)] dX1_count_39 (by decide) (Nat.le_of_ble_eq_true rfl) rfl ?_
          refine x_iinc1 K [.ref (ad 0), .int (nI tn), .int (nI (ct (sl a tn) k)), .int (nI (k + 1))] dX1_count_40 rfl (by decide) (Nat.le_of_ble_eq_true rfl) rfl ?_
          refine x_goto K 4 dX1_count_43 (by decide) ?_
          have h5 := ih (k + 1) (by omega)
          rw [ct_s0 h0] at h5
          exact h5
        · skip
          refine x_iload_n K dX1_count_4 rfl ?_
          refine x_bipush K (nI 36) dX1_count_5 (by decide) ?_
          refine x_cmpN_ge K 46 dX1_count_7 (by decide) (by omega) (by omega) (fun q => absurd q (by omega)) (fun _ => ?_)
          refine x_aload_n K dX1_count_10 rfl ?_
          refine x_iload_n K dX1_count_11 rfl ?_
          refine caM_slot K (by decide) (Nat.le_of_ble_eq_true rfl) dX1_count_12 ?_
          refine x_if_eqB K 46 dX1_count_15 (by decide) (fun q => absurd q (by rw [h1]; decide)) (fun _ => ?_)
          refine x_aload_n K dX1_count_18 rfl ?_
          refine gtA K dX1_count_19 ?_
          refine x_bipush K (nI 36) dX1_count_22 (by decide) ?_
          refine x_iload_n K dX1_count_24 rfl ?_
          refine x_imulN K dX1_count_25 ?_
          refine x_iload_n K dX1_count_26 rfl ?_
          refine x_iaddN K dX1_count_27 ?_
          refine ldA K (36 * tn + k) (by omega) (by omega) (x := (sl a tn k)) (rfl) dX1_count_28 ?_
          refine x_if_eq K 38 dX1_count_29 (by decide) (fun q => absurd q (h0)) (fun _ => ?_)
          refine x_iload_n K dX1_count_32 rfl ?_
          refine x_iconst K (nI 1) dX1_count_33 (by decide) ?_
          refine x_iaddN K dX1_count_34 ?_
          refine x_goto K 39 dX1_count_35 (by decide) ?_
          refine x_istore_n K [.ref (ad 0), .int (nI tn), .int (nI ((ct (sl a tn) k) + 1)), .int (nI k)] dX1_count_39 (by decide) (Nat.le_of_ble_eq_true rfl) rfl ?_
          refine x_iinc1 K [.ref (ad 0), .int (nI tn), .int (nI ((ct (sl a tn) k) + 1)), .int (nI (k + 1))] dX1_count_40 rfl (by decide) (Nat.le_of_ble_eq_true rfl) rfl ?_
          refine x_goto K 4 dX1_count_43 (by decide) ?_
          have h5 := ih (k + 1) (by omega)
          rw [ct_s1 h0] at h5
          exact h5
    exact key 36 0 (by omega)
  · skip
    refine x_iconst K (nI 0) dX1_count_0 (by decide) ?_
    refine x_istore_n K [.ref (ad 0), .int t, .int (nI 0)] dX1_count_1 (by decide) (Nat.le_of_ble_eq_true rfl) rfl ?_
    refine x_iconst K (nI 0) dX1_count_2 (by decide) ?_
    refine x_istore_n K [.ref (ad 0), .int t, .int (nI 0), .int (nI 0)] dX1_count_3 (by decide) (Nat.le_of_ble_eq_true rfl) rfl ?_
    refine x_iload_n K dX1_count_4 rfl ?_
    refine x_bipush K (nI 36) dX1_count_5 (by decide) ?_
    refine x_cmpN_ge K 46 dX1_count_7 (by decide) (by omega) (by omega) (fun q => absurd q (by omega)) (fun _ => ?_)
    refine x_aload_n K dX1_count_10 rfl ?_
    refine x_iload_n K dX1_count_11 rfl ?_
    refine caM_slot K (by decide) (Nat.le_of_ble_eq_true rfl) dX1_count_12 ?_
    refine x_if_eqB K 46 dX1_count_15 (by decide) (fun _ => ?_) (fun q => absurd q (by rw [h1]; decide))
    refine x_aload_n K dX1_count_46 rfl ?_
    refine x_iload_n K dX1_count_47 rfl ?_
    refine caM_slot K (by decide) (Nat.le_of_ble_eq_true rfl) dX1_count_48 ?_
    refine x_if_eqB K 58 dX1_count_51 (by decide) (fun _ => ?_) (fun q => absurd q (by rw [h1]; decide))
    refine x_iconst K (-1) dX1_count_58 (by decide) ?_
    rw [hQ0]
    exact x_iret K hr hlocks dX1_count_59 () (rfl) (by unfold vCnt; rw [h1]; rfl)
theorem caM_count {p : Program} {l : Launch} {e : Env} {R : Room} {s : State} {m : MethodId} {args : Array Value} {below : List Frame} {meth : Method} {c : Code} {cells slots : Nat} {Q : State → Prop} {cc : ByteArray} {pc nL dR : Nat} {st : List Value} {lv : List Value} {A : Nat → Prop} {D : va_G} {ad : Nat → Nat} {bd : Nat → ClassId} {a b : Nat → Int32} (K : XC p R s m args c cells slots D A (tyM bd) nL cc RX1 dR) (hdR : 2 ≤ dR) {t : Int32} (hroom : (st.map fun v => v.category).sum ≤ 8) (hdg : decode cc pc = .ok (.invokevirtual 23, 3)) (kk : XW p l e R s m args below meth c cells slots Q D A nL (wM ad bd a b) (pc + 3) lv (.int (vCnt a t) :: st)) : XW p l e R s m args below meth c cells slots Q D A nL (wM ad bd a b) pc lv (.int t :: .ref (ad 0) :: st) :=
  x_callI (n := 1) K (ctM_count l (t := t)) q202 q203 q204 q19 q205 (by decide +kernel) hdR (by decide) rfl rfl rfl rfl hroom hdg (fun r _ h => by rw [h]; exact kk)
theorem putm_congr {a b M : Nat → Int32} {t : Nat} (h : ∀ c, c < 36 → b c = M c) : putm a t b = putm a t M := by
  funext q
  unfold putm
  split
  · exact h _ (by omega)
  · rfl
theorem sl_putm {a b : Nat → Int32} {t : Nat} : ct (sl (putm a t b) t) 36 = ct b 36 := ct_congr (fun c hc => putm_in hc)
set_option maxHeartbeats 4000000 in
theorem ctM_keep (l : Launch) {D : va_G} {ad : Nat → Nat} {bd : Nat → ClassId} {a b : Nat → Int32} {t : Nat} (ht : t < 5) : CtI l yX1_keep cX1_keep 3 (some .int) 2 D (tyM bd) [.ref (ad 0), .int (nI t)] (wM ad bd a b) (fun r (_ : Unit) => r = nI (ct b 36)) (fun _ => wM ad bd (putm a t b) b) := by
  refine x_enterI (own := RX1) (by decide) rfl (Nat.le_of_ble_eq_true rfl) (by simp [Value.category]) ?_
  intro p e s m args below meth c A K hr hlocks
  obtain ⟨Q0, hQ0⟩ : ∃ Q0 : State → Prop, Q0 = XQi below args s D (tyM bd) A (fun r (_ : Unit) => r = nI (ct b 36)) (fun _ => wM ad bd (putm a t b) b) := ⟨_, rfl⟩
  rw [← hQ0]
  refine x_iconst K (nI 0) dX1_keep_0 (by decide) ?_
  refine x_istore_n K [.ref (ad 0), .int (nI t), .int (nI 0)] dX1_keep_1 (by decide) (Nat.le_of_ble_eq_true rfl) rfl ?_
  have key : ∀ (n : Nat) (k : Nat) (a1 : Nat → Int32), k + n = 36 → (∀ q, a1 q = if 36 * t ≤ q ∧ q < 36 * t + k then b (q - 36 * t) else a q) → XW p l e (rD 2) s m args below meth c 0 0 Q0 D A 3 (wM ad bd a1 b) 2 [.ref (ad 0), .int (nI t), .int (nI k)] [] := by
    intro n
    induction n with
    | zero =>
      intro k a1 hk h1
      obtain rfl : k = 36 := by omega
      have e1 : a1 = putm a t b := funext h1
      subst e1
      refine x_iload_n K dX1_keep_2 rfl ?_
      refine x_bipush K (nI 36) dX1_keep_3 (by decide) ?_
      refine x_cmpN_ge K 31 dX1_keep_5 (by decide) (by omega) (by omega) (fun _ => ?_) (fun q => absurd q (by omega))
      refine x_aload_n K dX1_keep_31 rfl ?_
      refine x_iload_n K dX1_keep_32 rfl ?_
      refine caM_count K (by decide) (t := nI t) (Nat.le_of_ble_eq_true rfl) dX1_keep_33 ?_
      rw [hQ0]
      exact x_iret K hr hlocks dX1_keep_36 () (rfl) (by unfold vCnt; rw [okb_lt ht (by omega), if_pos rfl, cN_nI (by omega), sl_putm])
    | succ n ih =>
      intro k a1 hk h1
      refine x_iload_n K dX1_keep_2 rfl ?_
      refine x_bipush K (nI 36) dX1_keep_3 (by decide) ?_
      refine x_cmpN_ge K 31 dX1_keep_5 (by decide) (by omega) (by omega) (fun q => absurd q (by omega)) (fun _ => ?_)
      refine x_aload_n K dX1_keep_8 rfl ?_
      refine gtA K dX1_keep_9 ?_
      refine x_bipush K (nI 36) dX1_keep_12 (by decide) ?_
      refine x_iload_n K dX1_keep_14 rfl ?_
      refine x_imulN K dX1_keep_15 ?_
      refine x_iload_n K dX1_keep_16 rfl ?_
      refine x_iaddN K dX1_keep_17 ?_
      refine x_aload_n K dX1_keep_18 rfl ?_
      refine gtB K dX1_keep_19 ?_
      refine x_iload_n K dX1_keep_22 rfl ?_
      refine ldB K (k) (rfl) (by omega) (x := (b k)) (rfl) dX1_keep_23 ?_
      refine stA K (36 * t + k) (by omega) (by omega) dX1_keep_24 ?_
      refine x_iinc1 K [.ref (ad 0), .int (nI t), .int (nI (k + 1))] dX1_keep_25 rfl (by decide) (Nat.le_of_ble_eq_true rfl) rfl ?_
      refine x_goto K 2 dX1_keep_28 (by decide) ?_
      refine ih (k + 1) _ (by omega) (fun q => ?_)
      by_cases hq : q = 36 * t + k
      · rw [hq, pk_us, if_pos (by omega), Nat.add_sub_cancel_left]
      · rw [pk_un hq, h1 q]
        by_cases h2 : 36 * t ≤ q ∧ q < 36 * t + k
        · rw [if_pos h2, if_pos (by omega)]
        · rw [if_neg h2, if_neg (by omega)]
  exact key 36 0 a (by omega) (fun q => by rw [if_neg (by omega)])
theorem caM_keep {p : Program} {l : Launch} {e : Env} {R : Room} {s : State} {m : MethodId} {args : Array Value} {below : List Frame} {meth : Method} {c : Code} {cells slots : Nat} {Q : State → Prop} {cc : ByteArray} {pc nL dR : Nat} {st : List Value} {lv : List Value} {A : Nat → Prop} {D : va_G} {ad : Nat → Nat} {bd : Nat → ClassId} {a b : Nat → Int32} (K : XC p R s m args c cells slots D A (tyM bd) nL cc RX1 dR) (hdR : 3 ≤ dR) {t : Nat} (ht : t < 5) (hroom : (st.map fun v => v.category).sum ≤ 8) (hdg : decode cc pc = .ok (.invokevirtual 27, 3)) (kk : XW p l e R s m args below meth c cells slots Q D A nL (wM ad bd (putm a t b) b) (pc + 3) lv (.int (nI (ct b 36)) :: st)) : XW p l e R s m args below meth c cells slots Q D A nL (wM ad bd a b) pc lv (.int (nI t) :: .ref (ad 0) :: st) :=
  x_callI (n := 1) K (ctM_keep l ht) q198 q200 qs14 q19 q201 (by decide +kernel) hdR (by decide) rfl rfl rfl rfl hroom hdg (fun r _ h => by rw [h]; exact kk)
theorem sp_okM {ok : Bool} {a b M : Nat → Int32} {tn : Nat} (hok : ok = true) (hb : ∀ c, c < 36 → b c = M c) (ht : tn < 5) : nI (ct b 36) = spR ok M ∧ putm a tn b = spS ok a (nI tn) M := by
  subst hok
  refine ⟨by unfold spR; rw [if_pos rfl, ct_congr hb], ?_⟩
  unfold spS
  rw [if_pos rfl, nI_clamp (by omega), putm_congr hb]
theorem sp_noM {ok : Bool} {a M : Nat → Int32} {t : Int32} (hok : ok = false) : (-1 : Int32) = spR ok M ∧ a = spS ok a t M := by
  subst hok
  exact ⟨rfl, rfl⟩
set_option maxHeartbeats 4000000 in
theorem ctM_put (l : Launch) {D : va_G} {ad : Nat → Nat} {bd : Nat → ClassId} {a b : Nat → Int32} {t x y v : Int32} : CtI l yX1_put cX1_put 5 (some .boolean) 3 D (tyM bd) [.ref (ad 0), .int t, .int x, .int y, .int v] (wM ad bd a b) (fun r (u : (Nat → Int32) × (Nat → Int32)) => r = vPutR t x y ∧ u.1 = vPutS a t x y v) (fun u => wM ad bd u.1 u.2) := by
  refine x_enterI (own := RX1) (by decide) rfl (Nat.le_of_ble_eq_true rfl) (by simp [Value.category]) ?_
  intro p e s m args below meth c A K hr hlocks
  obtain ⟨Q0, hQ0⟩ : ∃ Q0 : State → Prop, Q0 = XQi below args s D (tyM bd) A (fun r (u : (Nat → Int32) × (Nat → Int32)) => r = vPutR t x y ∧ u.1 = vPutS a t x y v) (fun u => wM ad bd u.1 u.2) := ⟨_, rfl⟩
  rw [← hQ0]
  refine x_aload_n K dX1_put_0 rfl ?_
  refine x_iload_n K dX1_put_1 rfl ?_
  refine caM_slot K (by decide) (Nat.le_of_ble_eq_true rfl) dX1_put_2 ?_
  refine x_if_eqB K 24 dX1_put_5 (by decide) (fun h1 => ?_) (fun h1 => ?_)
  · skip
    refine x_iconst K (nI 0) dX1_put_24 (by decide) ?_
    rw [hQ0]
    exact x_zret K hr hlocks dX1_put_25 (a, b) (rfl) (by unfold vPutR vPutS; rw [show (okb 5 t && okb 6 x && okb 6 y) = false by simp [*]]; exact ⟨rfl, rfl⟩) (Or.inl rfl)
  · skip
    refine x_aload_n K dX1_put_8 rfl ?_
    refine x_iload_n K dX1_put_9 rfl ?_
    refine caM_line K (by decide) (Nat.le_of_ble_eq_true rfl) dX1_put_10 ?_
    refine x_if_eqB K 24 dX1_put_13 (by decide) (fun h2 => ?_) (fun h2 => ?_)
    · skip
      refine x_iconst K (nI 0) dX1_put_24 (by decide) ?_
      rw [hQ0]
      exact x_zret K hr hlocks dX1_put_25 (a, b) (rfl) (by unfold vPutR vPutS; rw [show (okb 5 t && okb 6 x && okb 6 y) = false by simp [*]]; exact ⟨rfl, rfl⟩) (Or.inl rfl)
    · skip
      refine x_aload_n K dX1_put_16 rfl ?_
      refine x_iload_n K dX1_put_17 rfl ?_
      refine caM_line K (by decide) (Nat.le_of_ble_eq_true rfl) dX1_put_18 ?_
      refine x_if_neB K 26 dX1_put_21 (by decide) (fun h3 => ?_) (fun h3 => ?_)
      · skip
        obtain ⟨tn, ht, rfl⟩ := okb_of h1
        obtain ⟨xn, hx, rfl⟩ := okb_of h2
        obtain ⟨yn, hy, rfl⟩ := okb_of h3
        refine x_aload_n K dX1_put_26 rfl ?_
        refine gtA K dX1_put_27 ?_
        refine x_bipush K (nI 36) dX1_put_30 (by decide) ?_
        refine x_iload_n K dX1_put_32 rfl ?_
        refine x_imulN K dX1_put_33 ?_
        refine x_bipush K (nI 6) dX1_put_34 (by decide) ?_
        refine x_iload_n K dX1_put_36 rfl ?_
        refine x_imulN K dX1_put_37 ?_
        refine x_iaddN K dX1_put_38 ?_
        refine x_iload_n K dX1_put_39 rfl ?_
        refine x_iaddN K dX1_put_40 ?_
        refine x_iload K dX1_put_41 rfl ?_
        refine stA K (36 * tn + 6 * xn + yn) (by omega) (by omega) dX1_put_43 ?_
        refine x_iconst K (nI 1) dX1_put_44 (by decide) ?_
        rw [hQ0]
        exact x_zret K hr hlocks dX1_put_45 (upd a (36 * tn + 6 * xn + yn) v, b) (rfl) (by unfold vPutR vPutS; rw [h1, h2, h3, Bool.and_self, Bool.and_self, if_pos rfl, cN_nI (by omega), cN_nI (by omega), cN_nI (by omega)]; exact ⟨rfl, rfl⟩) (Or.inr rfl)
      · skip
        refine x_iconst K (nI 0) dX1_put_24 (by decide) ?_
        rw [hQ0]
        exact x_zret K hr hlocks dX1_put_25 (a, b) (rfl) (by unfold vPutR vPutS; rw [show (okb 5 t && okb 6 x && okb 6 y) = false by simp [*]]; exact ⟨rfl, rfl⟩) (Or.inl rfl)
set_option maxHeartbeats 8000000 in
theorem ctM_add (l : Launch) {D : va_G} {ad : Nat → Nat} {bd : Nat → ClassId} {a b : Nat → Int32} {t x y : Int32} : CtI l yX1_add cX1_add 5 (some .int) 3 D (tyM bd) [.ref (ad 0), .int t, .int x, .int y] (wM ad bd a b) (fun r (u : (Nat → Int32) × (Nat → Int32)) => r = spR (okb 5 t && okb 5 x && okb 5 y) (mAdd a x y) ∧ u.1 = spS (okb 5 t && okb 5 x && okb 5 y) a t (mAdd a x y)) (fun u => wM ad bd u.1 u.2) := by
  refine x_enterI (own := RX1) (by decide) rfl (Nat.le_of_ble_eq_true rfl) (by simp [Value.category]) ?_
  intro p e s m args below meth c A K hr hlocks
  obtain ⟨Q0, hQ0⟩ : ∃ Q0 : State → Prop, Q0 = XQi below args s D (tyM bd) A (fun r (u : (Nat → Int32) × (Nat → Int32)) => r = spR (okb 5 t && okb 5 x && okb 5 y) (mAdd a x y) ∧ u.1 = spS (okb 5 t && okb 5 x && okb 5 y) a t (mAdd a x y)) (fun u => wM ad bd u.1 u.2) := ⟨_, rfl⟩
  rw [← hQ0]
  refine x_aload_n K dX1_add_0 rfl ?_
  refine x_iload_n K dX1_add_1 rfl ?_
  refine caM_slot K (by decide) (Nat.le_of_ble_eq_true rfl) dX1_add_2 ?_
  refine x_if_eqB K 24 dX1_add_5 (by decide) (fun h1 => ?_) (fun h1 => ?_)
  · skip
    refine x_iconst K (-1) dX1_add_24 (by decide) ?_
    rw [hQ0]
    exact x_iret K hr hlocks dX1_add_25 (a, b) (rfl) (sp_noM (by simp [*]))
  · skip
    refine x_aload_n K dX1_add_8 rfl ?_
    refine x_iload_n K dX1_add_9 rfl ?_
    refine caM_slot K (by decide) (Nat.le_of_ble_eq_true rfl) dX1_add_10 ?_
    refine x_if_eqB K 24 dX1_add_13 (by decide) (fun h2 => ?_) (fun h2 => ?_)
    · skip
      refine x_iconst K (-1) dX1_add_24 (by decide) ?_
      rw [hQ0]
      exact x_iret K hr hlocks dX1_add_25 (a, b) (rfl) (sp_noM (by simp [*]))
    · skip
      refine x_aload_n K dX1_add_16 rfl ?_
      refine x_iload_n K dX1_add_17 rfl ?_
      refine caM_slot K (by decide) (Nat.le_of_ble_eq_true rfl) dX1_add_18 ?_
      refine x_if_neB K 26 dX1_add_21 (by decide) (fun h3 => ?_) (fun h3 => ?_)
      · skip
        obtain ⟨tn, ht, rfl⟩ := okb_of h1
        obtain ⟨xn, hx, rfl⟩ := okb_of h2
        obtain ⟨yn, hy, rfl⟩ := okb_of h3
        have hok : (okb 5 (nI tn) && okb 5 (nI xn) && okb 5 (nI yn)) = true := by rw [h1, h2, h3]; rfl
        obtain ⟨M, hMe⟩ : ∃ M, M = mAdd a (nI xn) (nI yn) := ⟨_, rfl⟩
        have hM : ∀ c, c < 36 → M c = sl a xn c + sl a yn c := fun c _ => by rw [hMe]; unfold mAdd; rw [cN_nI (by omega), cN_nI (by omega)]
        refine x_iconst K (nI 0) dX1_add_26 (by decide) ?_
        refine x_istore K [.ref (ad 0), .int (nI tn), .int (nI xn), .int (nI yn), .int (nI 0)] dX1_add_27 (by decide) (Nat.le_of_ble_eq_true rfl) rfl ?_
        have key : ∀ (n : Nat) (k : Nat) (b : Nat → Int32), k + n = 36 → (∀ c, c < k → b c = M c) → XW p l e (rD 3) s m args below meth c 0 0 Q0 D A 5 (wM ad bd a b) 29 [.ref (ad 0), .int (nI tn), .int (nI xn), .int (nI yn), .int (nI k)] [] := by
          intro n
          induction n with
          | zero =>
            intro k b hk hb
            obtain rfl : k = 36 := by omega
            refine x_iload K dX1_add_29 rfl ?_
            refine x_bipush K (nI 36) dX1_add_31 (by decide) ?_
            refine x_cmpN_ge K 74 dX1_add_33 (by decide) (by omega) (by omega) (fun _ => ?_) (fun q => absurd q (by omega))
            refine x_aload_n K dX1_add_74 rfl ?_
            refine x_iload_n K dX1_add_75 rfl ?_
            refine caM_keep K (by decide) ht (Nat.le_of_ble_eq_true rfl) dX1_add_76 ?_
            rw [hQ0]
            exact x_iret K hr hlocks dX1_add_79 (putm a tn b, b) (rfl) (by rw [← hMe]; exact sp_okM hok hb ht)
          | succ n ih =>
            intro k b hk hb
            refine x_iload K dX1_add_29 rfl ?_
            refine x_bipush K (nI 36) dX1_add_31 (by decide) ?_
            refine x_cmpN_ge K 74 dX1_add_33 (by decide) (by omega) (by omega) (fun q => absurd q (by omega)) (fun _ => ?_)
            refine x_aload_n K dX1_add_36 rfl ?_
            refine gtB K dX1_add_37 ?_
            refine x_iload K dX1_add_40 rfl ?_
            refine x_aload_n K dX1_add_42 rfl ?_
            refine gtA K dX1_add_43 ?_
            refine x_bipush K (nI 36) dX1_add_46 (by decide) ?_
            refine x_iload_n K dX1_add_48 rfl ?_
            refine x_imulN K dX1_add_49 ?_
            refine x_iload K dX1_add_50 rfl ?_
            refine x_iaddN K dX1_add_52 ?_
            refine ldA K (36 * xn + k) (by omega) (by omega) (x := (sl a xn k)) (rfl) dX1_add_53 ?_
            refine x_aload_n K dX1_add_54 rfl ?_
            refine gtA K dX1_add_55 ?_
            refine x_bipush K (nI 36) dX1_add_58 (by decide) ?_
            refine x_iload_n K dX1_add_60 rfl ?_
            refine x_imulN K dX1_add_61 ?_
            refine x_iload K dX1_add_62 rfl ?_
            refine x_iaddN K dX1_add_64 ?_
            refine ldA K (36 * yn + k) (by omega) (by omega) (x := (sl a yn k)) (rfl) dX1_add_65 ?_
            refine x_iadd K dX1_add_66 ?_
            refine stB K (k) (rfl) (by omega) dX1_add_67 ?_
            refine x_iinc1 K [.ref (ad 0), .int (nI tn), .int (nI xn), .int (nI yn), .int (nI (k + 1))] dX1_add_68 rfl (by decide) (Nat.le_of_ble_eq_true rfl) rfl ?_
            refine x_goto K 29 dX1_add_71 (by decide) ?_
            exact ih (k + 1) _ (by omega) (fun c hc => by
              by_cases hck : c = k
              · rw [hck, pk_us]; exact (hM k (by omega)).symm
              · rw [pk_un hck]; exact hb c (by omega))
        exact key 36 0 b (by omega) (fun c hc => absurd hc (by omega))
      · skip
        refine x_iconst K (-1) dX1_add_24 (by decide) ?_
        rw [hQ0]
        exact x_iret K hr hlocks dX1_add_25 (a, b) (rfl) (sp_noM (by simp [*]))
set_option maxHeartbeats 8000000 in
theorem ctM_entrywise (l : Launch) {D : va_G} {ad : Nat → Nat} {bd : Nat → ClassId} {a b : Nat → Int32} {t x y : Int32} : CtI l yX1_entrywise cX1_entrywise 5 (some .int) 3 D (tyM bd) [.ref (ad 0), .int t, .int x, .int y] (wM ad bd a b) (fun r (u : (Nat → Int32) × (Nat → Int32)) => r = spR (okb 5 t && okb 5 x && okb 5 y) (mMul a x y) ∧ u.1 = spS (okb 5 t && okb 5 x && okb 5 y) a t (mMul a x y)) (fun u => wM ad bd u.1 u.2) := by
  refine x_enterI (own := RX1) (by decide) rfl (Nat.le_of_ble_eq_true rfl) (by simp [Value.category]) ?_
  intro p e s m args below meth c A K hr hlocks
  obtain ⟨Q0, hQ0⟩ : ∃ Q0 : State → Prop, Q0 = XQi below args s D (tyM bd) A (fun r (u : (Nat → Int32) × (Nat → Int32)) => r = spR (okb 5 t && okb 5 x && okb 5 y) (mMul a x y) ∧ u.1 = spS (okb 5 t && okb 5 x && okb 5 y) a t (mMul a x y)) (fun u => wM ad bd u.1 u.2) := ⟨_, rfl⟩
  rw [← hQ0]
  refine x_aload_n K dX1_entrywise_0 rfl ?_
  refine x_iload_n K dX1_entrywise_1 rfl ?_
  refine caM_slot K (by decide) (Nat.le_of_ble_eq_true rfl) dX1_entrywise_2 ?_
  refine x_if_eqB K 24 dX1_entrywise_5 (by decide) (fun h1 => ?_) (fun h1 => ?_)
  · skip
    refine x_iconst K (-1) dX1_entrywise_24 (by decide) ?_
    rw [hQ0]
    exact x_iret K hr hlocks dX1_entrywise_25 (a, b) (rfl) (sp_noM (by simp [*]))
  · skip
    refine x_aload_n K dX1_entrywise_8 rfl ?_
    refine x_iload_n K dX1_entrywise_9 rfl ?_
    refine caM_slot K (by decide) (Nat.le_of_ble_eq_true rfl) dX1_entrywise_10 ?_
    refine x_if_eqB K 24 dX1_entrywise_13 (by decide) (fun h2 => ?_) (fun h2 => ?_)
    · skip
      refine x_iconst K (-1) dX1_entrywise_24 (by decide) ?_
      rw [hQ0]
      exact x_iret K hr hlocks dX1_entrywise_25 (a, b) (rfl) (sp_noM (by simp [*]))
    · skip
      refine x_aload_n K dX1_entrywise_16 rfl ?_
      refine x_iload_n K dX1_entrywise_17 rfl ?_
      refine caM_slot K (by decide) (Nat.le_of_ble_eq_true rfl) dX1_entrywise_18 ?_
      refine x_if_neB K 26 dX1_entrywise_21 (by decide) (fun h3 => ?_) (fun h3 => ?_)
      · skip
        obtain ⟨tn, ht, rfl⟩ := okb_of h1
        obtain ⟨xn, hx, rfl⟩ := okb_of h2
        obtain ⟨yn, hy, rfl⟩ := okb_of h3
        have hok : (okb 5 (nI tn) && okb 5 (nI xn) && okb 5 (nI yn)) = true := by rw [h1, h2, h3]; rfl
        obtain ⟨M, hMe⟩ : ∃ M, M = mMul a (nI xn) (nI yn) := ⟨_, rfl⟩
        have hM : ∀ c, c < 36 → M c = sl a xn c * sl a yn c := fun c _ => by rw [hMe]; unfold mMul; rw [cN_nI (by omega), cN_nI (by omega)]
        refine x_iconst K (nI 0) dX1_entrywise_26 (by decide) ?_
        refine x_istore K [.ref (ad 0), .int (nI tn), .int (nI xn), .int (nI yn), .int (nI 0)] dX1_entrywise_27 (by decide) (Nat.le_of_ble_eq_true rfl) rfl ?_
        have key : ∀ (n : Nat) (k : Nat) (b : Nat → Int32), k + n = 36 → (∀ c, c < k → b c = M c) → XW p l e (rD 3) s m args below meth c 0 0 Q0 D A 5 (wM ad bd a b) 29 [.ref (ad 0), .int (nI tn), .int (nI xn), .int (nI yn), .int (nI k)] [] := by
          intro n
          induction n with
          | zero =>
            intro k b hk hb
            obtain rfl : k = 36 := by omega
            refine x_iload K dX1_entrywise_29 rfl ?_
            refine x_bipush K (nI 36) dX1_entrywise_31 (by decide) ?_
            refine x_cmpN_ge K 74 dX1_entrywise_33 (by decide) (by omega) (by omega) (fun _ => ?_) (fun q => absurd q (by omega))
            refine x_aload_n K dX1_entrywise_74 rfl ?_
            refine x_iload_n K dX1_entrywise_75 rfl ?_
            refine caM_keep K (by decide) ht (Nat.le_of_ble_eq_true rfl) dX1_entrywise_76 ?_
            rw [hQ0]
            exact x_iret K hr hlocks dX1_entrywise_79 (putm a tn b, b) (rfl) (by rw [← hMe]; exact sp_okM hok hb ht)
          | succ n ih =>
            intro k b hk hb
            refine x_iload K dX1_entrywise_29 rfl ?_
            refine x_bipush K (nI 36) dX1_entrywise_31 (by decide) ?_
            refine x_cmpN_ge K 74 dX1_entrywise_33 (by decide) (by omega) (by omega) (fun q => absurd q (by omega)) (fun _ => ?_)
            refine x_aload_n K dX1_entrywise_36 rfl ?_
            refine gtB K dX1_entrywise_37 ?_
            refine x_iload K dX1_entrywise_40 rfl ?_
            refine x_aload_n K dX1_entrywise_42 rfl ?_
            refine gtA K dX1_entrywise_43 ?_
            refine x_bipush K (nI 36) dX1_entrywise_46 (by decide) ?_
            refine x_iload_n K dX1_entrywise_48 rfl ?_
            refine x_imulN K dX1_entrywise_49 ?_
            refine x_iload K dX1_entrywise_50 rfl ?_
            refine x_iaddN K dX1_entrywise_52 ?_
            refine ldA K (36 * xn + k) (by omega) (by omega) (x := (sl a xn k)) (rfl) dX1_entrywise_53 ?_
            refine x_aload_n K dX1_entrywise_54 rfl ?_
            refine gtA K dX1_entrywise_55 ?_
            refine x_bipush K (nI 36) dX1_entrywise_58 (by decide) ?_
            refine x_iload_n K dX1_entrywise_60 rfl ?_
            refine x_imulN K dX1_entrywise_61 ?_
            refine x_iload K dX1_entrywise_62 rfl ?_
            refine x_iaddN K dX1_entrywise_64 ?_
            refine ldA K (36 * yn + k) (by omega) (by omega) (x := (sl a yn k)) (rfl) dX1_entrywise_65 ?_
            refine x_imul K dX1_entrywise_66 ?_
            refine stB K (k) (rfl) (by omega) dX1_entrywise_67 ?_
            refine x_iinc1 K [.ref (ad 0), .int (nI tn), .int (nI xn), .int (nI yn), .int (nI (k + 1))] dX1_entrywise_68 rfl (by decide) (Nat.le_of_ble_eq_true rfl) rfl ?_
            refine x_goto K 29 dX1_entrywise_71 (by decide) ?_
            exact ih (k + 1) _ (by omega) (fun c hc => by
              by_cases hck : c = k
              · rw [hck, pk_us]; exact (hM k (by omega)).symm
              · rw [pk_un hck]; exact hb c (by omega))
        exact key 36 0 b (by omega) (fun c hc => absurd hc (by omega))
      · skip
        refine x_iconst K (-1) dX1_entrywise_24 (by decide) ?_
        rw [hQ0]
        exact x_iret K hr hlocks dX1_entrywise_25 (a, b) (rfl) (sp_noM (by simp [*]))
set_option maxHeartbeats 8000000 in
theorem ctM_product (l : Launch) {D : va_G} {ad : Nat → Nat} {bd : Nat → ClassId} {a b : Nat → Int32} {t x y : Int32} : CtI l yX1_product cX1_product 5 (some .int) 3 D (tyM bd) [.ref (ad 0), .int t, .int x, .int y] (wM ad bd a b) (fun r (u : (Nat → Int32) × (Nat → Int32)) => r = spR (okb 5 t && okb 5 x && okb 5 y) (mPro a x y) ∧ u.1 = spS (okb 5 t && okb 5 x && okb 5 y) a t (mPro a x y)) (fun u => wM ad bd u.1 u.2) := by
  refine x_enterI (own := RX1) (by decide) rfl (Nat.le_of_ble_eq_true rfl) (by simp [Value.category]) ?_
  intro p e s m args below meth c A K hr hlocks
  obtain ⟨Q0, hQ0⟩ : ∃ Q0 : State → Prop, Q0 = XQi below args s D (tyM bd) A (fun r (u : (Nat → Int32) × (Nat → Int32)) => r = spR (okb 5 t && okb 5 x && okb 5 y) (mPro a x y) ∧ u.1 = spS (okb 5 t && okb 5 x && okb 5 y) a t (mPro a x y)) (fun u => wM ad bd u.1 u.2) := ⟨_, rfl⟩
  rw [← hQ0]
  refine x_aload_n K dX1_product_0 rfl ?_
  refine x_iload_n K dX1_product_1 rfl ?_
  refine caM_slot K (by decide) (Nat.le_of_ble_eq_true rfl) dX1_product_2 ?_
  refine x_if_eqB K 24 dX1_product_5 (by decide) (fun h1 => ?_) (fun h1 => ?_)
  · skip
    refine x_iconst K (-1) dX1_product_24 (by decide) ?_
    rw [hQ0]
    exact x_iret K hr hlocks dX1_product_25 (a, b) (rfl) (sp_noM (by simp [*]))
  · skip
    refine x_aload_n K dX1_product_8 rfl ?_
    refine x_iload_n K dX1_product_9 rfl ?_
    refine caM_slot K (by decide) (Nat.le_of_ble_eq_true rfl) dX1_product_10 ?_
    refine x_if_eqB K 24 dX1_product_13 (by decide) (fun h2 => ?_) (fun h2 => ?_)
    · skip
      refine x_iconst K (-1) dX1_product_24 (by decide) ?_
      rw [hQ0]
      exact x_iret K hr hlocks dX1_product_25 (a, b) (rfl) (sp_noM (by simp [*]))
    · skip
      refine x_aload_n K dX1_product_16 rfl ?_
      refine x_iload_n K dX1_product_17 rfl ?_
      refine caM_slot K (by decide) (Nat.le_of_ble_eq_true rfl) dX1_product_18 ?_
      refine x_if_neB K 26 dX1_product_21 (by decide) (fun h3 => ?_) (fun h3 => ?_)
      · skip
        obtain ⟨tn, ht, rfl⟩ := okb_of h1
        obtain ⟨xn, hx, rfl⟩ := okb_of h2
        obtain ⟨yn, hy, rfl⟩ := okb_of h3
        have hok : (okb 5 (nI tn) && okb 5 (nI xn) && okb 5 (nI yn)) = true := by rw [h1, h2, h3]; rfl
        obtain ⟨M, hMe⟩ : ∃ M, M = mPro a (nI xn) (nI yn) := ⟨_, rfl⟩
        have hM : ∀ c, c < 36 → M c = en (sl a xn) (sl a yn) (c / 6) (c % 6) := fun c _ => by rw [hMe]; unfold mPro; rw [cN_nI (by omega), cN_nI (by omega)]
        refine x_iconst K (nI 0) dX1_product_26 (by decide) ?_
        refine x_istore K [.ref (ad 0), .int (nI tn), .int (nI xn), .int (nI yn), .int (nI 0)] dX1_product_27 (by decide) (Nat.le_of_ble_eq_true rfl) rfl ?_
        have key : ∀ (n : Nat) (k : Nat) (b : Nat → Int32), k + n = 36 → (∀ c, c < k → b c = M c) → XW p l e (rD 3) s m args below meth c 0 0 Q0 D A 5 (wM ad bd a b) 29 [.ref (ad 0), .int (nI tn), .int (nI xn), .int (nI yn), .int (nI k)] [] := by
          intro n
          induction n with
          | zero =>
            intro k b hk hb
            obtain rfl : k = 36 := by omega
            refine x_iload K dX1_product_29 rfl ?_
            refine x_bipush K (nI 36) dX1_product_31 (by decide) ?_
            refine x_cmpN_ge K 65 dX1_product_33 (by decide) (by omega) (by omega) (fun _ => ?_) (fun q => absurd q (by omega))
            refine x_aload_n K dX1_product_65 rfl ?_
            refine x_iload_n K dX1_product_66 rfl ?_
            refine caM_keep K (by decide) ht (Nat.le_of_ble_eq_true rfl) dX1_product_67 ?_
            rw [hQ0]
            exact x_iret K hr hlocks dX1_product_70 (putm a tn b, b) (rfl) (by rw [← hMe]; exact sp_okM hok hb ht)
          | succ n ih =>
            intro k b hk hb
            refine x_iload K dX1_product_29 rfl ?_
            refine x_bipush K (nI 36) dX1_product_31 (by decide) ?_
            refine x_cmpN_ge K 65 dX1_product_33 (by decide) (by omega) (by omega) (fun q => absurd q (by omega)) (fun _ => ?_)
            refine x_aload_n K dX1_product_36 rfl ?_
            refine gtB K dX1_product_37 ?_
            refine x_iload K dX1_product_40 rfl ?_
            refine x_aload_n K dX1_product_42 rfl ?_
            refine x_iload_n K dX1_product_43 rfl ?_
            refine x_iload_n K dX1_product_44 rfl ?_
            refine x_iload K dX1_product_45 rfl ?_
            refine x_bipush K (nI 6) dX1_product_47 (by decide) ?_
            refine x_idivN K dX1_product_49 (by omega) (by omega) (by omega) ?_
            refine x_iload K dX1_product_50 rfl ?_
            refine x_bipush K (nI 6) dX1_product_52 (by decide) ?_
            refine x_iremN K dX1_product_54 (by omega) (by omega) (by omega) ?_
            refine caM_entry K (by decide) hx hy (by omega) (by omega) (Nat.le_of_ble_eq_true rfl) dX1_product_55 ?_
            refine stB K (k) (rfl) (by omega) dX1_product_58 ?_
            refine x_iinc1 K [.ref (ad 0), .int (nI tn), .int (nI xn), .int (nI yn), .int (nI (k + 1))] dX1_product_59 rfl (by decide) (Nat.le_of_ble_eq_true rfl) rfl ?_
            refine x_goto K 29 dX1_product_62 (by decide) ?_
            exact ih (k + 1) _ (by omega) (fun c hc => by
              by_cases hck : c = k
              · rw [hck, pk_us]; exact (hM k (by omega)).symm
              · rw [pk_un hck]; exact hb c (by omega))
        exact key 36 0 b (by omega) (fun c hc => absurd hc (by omega))
      · skip
        refine x_iconst K (-1) dX1_product_24 (by decide) ?_
        rw [hQ0]
        exact x_iret K hr hlocks dX1_product_25 (a, b) (rfl) (sp_noM (by simp [*]))
set_option maxHeartbeats 8000000 in
theorem ctM_transpose (l : Launch) {D : va_G} {ad : Nat → Nat} {bd : Nat → ClassId} {a b : Nat → Int32} {t x : Int32} : CtI l yX1_transpose cX1_transpose 4 (some .int) 3 D (tyM bd) [.ref (ad 0), .int t, .int x] (wM ad bd a b) (fun r (u : (Nat → Int32) × (Nat → Int32)) => r = spR (okb 5 t && okb 5 x) (mTra a x) ∧ u.1 = spS (okb 5 t && okb 5 x) a t (mTra a x)) (fun u => wM ad bd u.1 u.2) := by
  refine x_enterI (own := RX1) (by decide) rfl (Nat.le_of_ble_eq_true rfl) (by simp [Value.category]) ?_
  intro p e s m args below meth c A K hr hlocks
  obtain ⟨Q0, hQ0⟩ : ∃ Q0 : State → Prop, Q0 = XQi below args s D (tyM bd) A (fun r (u : (Nat → Int32) × (Nat → Int32)) => r = spR (okb 5 t && okb 5 x) (mTra a x) ∧ u.1 = spS (okb 5 t && okb 5 x) a t (mTra a x)) (fun u => wM ad bd u.1 u.2) := ⟨_, rfl⟩
  rw [← hQ0]
  refine x_aload_n K dX1_transpose_0 rfl ?_
  refine x_iload_n K dX1_transpose_1 rfl ?_
  refine caM_slot K (by decide) (Nat.le_of_ble_eq_true rfl) dX1_transpose_2 ?_
  refine x_if_eqB K 16 dX1_transpose_5 (by decide) (fun h1 => ?_) (fun h1 => ?_)
  · skip
    refine x_iconst K (-1) dX1_transpose_16 (by decide) ?_
    rw [hQ0]
    exact x_iret K hr hlocks dX1_transpose_17 (a, b) (rfl) (sp_noM (by simp [*]))
  · skip
    refine x_aload_n K dX1_transpose_8 rfl ?_
    refine x_iload_n K dX1_transpose_9 rfl ?_
    refine caM_slot K (by decide) (Nat.le_of_ble_eq_true rfl) dX1_transpose_10 ?_
    refine x_if_neB K 18 dX1_transpose_13 (by decide) (fun h2 => ?_) (fun h2 => ?_)
    · skip
      obtain ⟨tn, ht, rfl⟩ := okb_of h1
      obtain ⟨xn, hx, rfl⟩ := okb_of h2
      have hok : (okb 5 (nI tn) && okb 5 (nI xn)) = true := by rw [h1, h2]; rfl
      obtain ⟨M, hMe⟩ : ∃ M, M = mTra a (nI xn) := ⟨_, rfl⟩
      have hM : ∀ c, c < 36 → M c = sl a xn (6 * (c % 6) + c / 6) := fun c _ => by rw [hMe]; unfold mTra; rw [cN_nI (by omega)]
      refine x_iconst K (nI 0) dX1_transpose_18 (by decide) ?_
      refine x_istore_n K [.ref (ad 0), .int (nI tn), .int (nI xn), .int (nI 0)] dX1_transpose_19 (by decide) (Nat.le_of_ble_eq_true rfl) rfl ?_
      have key : ∀ (n : Nat) (k : Nat) (b : Nat → Int32), k + n = 36 → (∀ c, c < k → b c = M c) → XW p l e (rD 3) s m args below meth c 0 0 Q0 D A 4 (wM ad bd a b) 20 [.ref (ad 0), .int (nI tn), .int (nI xn), .int (nI k)] [] := by
        intro n
        induction n with
        | zero =>
          intro k b hk hb
          obtain rfl : k = 36 := by omega
          refine x_iload_n K dX1_transpose_20 rfl ?_
          refine x_bipush K (nI 36) dX1_transpose_21 (by decide) ?_
          refine x_cmpN_ge K 51 dX1_transpose_23 (by decide) (by omega) (by omega) (fun _ => ?_) (fun q => absurd q (by omega))
          refine x_aload_n K dX1_transpose_51 rfl ?_
          refine x_iload_n K dX1_transpose_52 rfl ?_
          refine caM_keep K (by decide) ht (Nat.le_of_ble_eq_true rfl) dX1_transpose_53 ?_
          rw [hQ0]
          exact x_iret K hr hlocks dX1_transpose_56 (putm a tn b, b) (rfl) (by rw [← hMe]; exact sp_okM hok hb ht)
        | succ n ih =>
          intro k b hk hb
          refine x_iload_n K dX1_transpose_20 rfl ?_
          refine x_bipush K (nI 36) dX1_transpose_21 (by decide) ?_
          refine x_cmpN_ge K 51 dX1_transpose_23 (by decide) (by omega) (by omega) (fun q => absurd q (by omega)) (fun _ => ?_)
          refine x_aload_n K dX1_transpose_26 rfl ?_
          refine gtB K dX1_transpose_27 ?_
          refine x_iload_n K dX1_transpose_30 rfl ?_
          refine x_aload_n K dX1_transpose_31 rfl ?_
          refine x_iload_n K dX1_transpose_32 rfl ?_
          refine x_iload_n K dX1_transpose_33 rfl ?_
          refine x_bipush K (nI 6) dX1_transpose_34 (by decide) ?_
          refine x_iremN K dX1_transpose_36 (by omega) (by omega) (by omega) ?_
          refine x_iload_n K dX1_transpose_37 rfl ?_
          refine x_bipush K (nI 6) dX1_transpose_38 (by decide) ?_
          refine x_idivN K dX1_transpose_40 (by omega) (by omega) (by omega) ?_
          refine caM_cell K (by decide) hx (by omega) (by omega) (Nat.le_of_ble_eq_true rfl) dX1_transpose_41 ?_
          refine stB K (k) (rfl) (by omega) dX1_transpose_44 ?_
          refine x_iinc1 K [.ref (ad 0), .int (nI tn), .int (nI xn), .int (nI (k + 1))] dX1_transpose_45 rfl (by decide) (Nat.le_of_ble_eq_true rfl) rfl ?_
          refine x_goto K 20 dX1_transpose_48 (by decide) ?_
          exact ih (k + 1) _ (by omega) (fun c hc => by
            by_cases hck : c = k
            · rw [hck, pk_us]; exact (hM k (by omega)).symm
            · rw [pk_un hck]; exact hb c (by omega))
      exact key 36 0 b (by omega) (fun c hc => absurd hc (by omega))
    · skip
      refine x_iconst K (-1) dX1_transpose_16 (by decide) ?_
      rw [hQ0]
      exact x_iret K hr hlocks dX1_transpose_17 (a, b) (rfl) (sp_noM (by simp [*]))
set_option maxHeartbeats 8000000 in
theorem ctM_scale (l : Launch) {D : va_G} {ad : Nat → Nat} {bd : Nat → ClassId} {a b : Nat → Int32} {t x y : Int32} : CtI l yX1_scale cX1_scale 5 (some .int) 3 D (tyM bd) [.ref (ad 0), .int t, .int x, .int y] (wM ad bd a b) (fun r (u : (Nat → Int32) × (Nat → Int32)) => r = spR (okb 5 t && okb 5 x) (mSca a x y) ∧ u.1 = spS (okb 5 t && okb 5 x) a t (mSca a x y)) (fun u => wM ad bd u.1 u.2) := by
  refine x_enterI (own := RX1) (by decide) rfl (Nat.le_of_ble_eq_true rfl) (by simp [Value.category]) ?_
  intro p e s m args below meth c A K hr hlocks
  obtain ⟨Q0, hQ0⟩ : ∃ Q0 : State → Prop, Q0 = XQi below args s D (tyM bd) A (fun r (u : (Nat → Int32) × (Nat → Int32)) => r = spR (okb 5 t && okb 5 x) (mSca a x y) ∧ u.1 = spS (okb 5 t && okb 5 x) a t (mSca a x y)) (fun u => wM ad bd u.1 u.2) := ⟨_, rfl⟩
  rw [← hQ0]
  refine x_aload_n K dX1_scale_0 rfl ?_
  refine x_iload_n K dX1_scale_1 rfl ?_
  refine caM_slot K (by decide) (Nat.le_of_ble_eq_true rfl) dX1_scale_2 ?_
  refine x_if_eqB K 16 dX1_scale_5 (by decide) (fun h1 => ?_) (fun h1 => ?_)
  · skip
    refine x_iconst K (-1) dX1_scale_16 (by decide) ?_
    rw [hQ0]
    exact x_iret K hr hlocks dX1_scale_17 (a, b) (rfl) (sp_noM (by simp [*]))
  · skip
    refine x_aload_n K dX1_scale_8 rfl ?_
    refine x_iload_n K dX1_scale_9 rfl ?_
    refine caM_slot K (by decide) (Nat.le_of_ble_eq_true rfl) dX1_scale_10 ?_
    refine x_if_neB K 18 dX1_scale_13 (by decide) (fun h2 => ?_) (fun h2 => ?_)
    · skip
      obtain ⟨tn, ht, rfl⟩ := okb_of h1
      obtain ⟨xn, hx, rfl⟩ := okb_of h2
      have hok : (okb 5 (nI tn) && okb 5 (nI xn)) = true := by rw [h1, h2]; rfl
      obtain ⟨M, hMe⟩ : ∃ M, M = mSca a (nI xn) y := ⟨_, rfl⟩
      have hM : ∀ c, c < 36 → M c = sl a xn c * y := fun c _ => by rw [hMe]; unfold mSca; rw [cN_nI (by omega)]
      refine x_iconst K (nI 0) dX1_scale_18 (by decide) ?_
      refine x_istore K [.ref (ad 0), .int (nI tn), .int (nI xn), .int y, .int (nI 0)] dX1_scale_19 (by decide) (Nat.le_of_ble_eq_true rfl) rfl ?_
      have key : ∀ (n : Nat) (k : Nat) (b : Nat → Int32), k + n = 36 → (∀ c, c < k → b c = M c) → XW p l e (rD 3) s m args below meth c 0 0 Q0 D A 5 (wM ad bd a b) 21 [.ref (ad 0), .int (nI tn), .int (nI xn), .int y, .int (nI k)] [] := by
        intro n
        induction n with
        | zero =>
          intro k b hk hb
          obtain rfl : k = 36 := by omega
          refine x_iload K dX1_scale_21 rfl ?_
          refine x_bipush K (nI 36) dX1_scale_23 (by decide) ?_
          refine x_cmpN_ge K 55 dX1_scale_25 (by decide) (by omega) (by omega) (fun _ => ?_) (fun q => absurd q (by omega))
          refine x_aload_n K dX1_scale_55 rfl ?_
          refine x_iload_n K dX1_scale_56 rfl ?_
          refine caM_keep K (by decide) ht (Nat.le_of_ble_eq_true rfl) dX1_scale_57 ?_
          rw [hQ0]
          exact x_iret K hr hlocks dX1_scale_60 (putm a tn b, b) (rfl) (by rw [← hMe]; exact sp_okM hok hb ht)
        | succ n ih =>
          intro k b hk hb
          refine x_iload K dX1_scale_21 rfl ?_
          refine x_bipush K (nI 36) dX1_scale_23 (by decide) ?_
          refine x_cmpN_ge K 55 dX1_scale_25 (by decide) (by omega) (by omega) (fun q => absurd q (by omega)) (fun _ => ?_)
          refine x_aload_n K dX1_scale_28 rfl ?_
          refine gtB K dX1_scale_29 ?_
          refine x_iload K dX1_scale_32 rfl ?_
          refine x_aload_n K dX1_scale_34 rfl ?_
          refine gtA K dX1_scale_35 ?_
          refine x_bipush K (nI 36) dX1_scale_38 (by decide) ?_
          refine x_iload_n K dX1_scale_40 rfl ?_
          refine x_imulN K dX1_scale_41 ?_
          refine x_iload K dX1_scale_42 rfl ?_
          refine x_iaddN K dX1_scale_44 ?_
          refine ldA K (36 * xn + k) (by omega) (by omega) (x := (sl a xn k)) (rfl) dX1_scale_45 ?_
          refine x_iload_n K dX1_scale_46 rfl ?_
          refine x_imul K dX1_scale_47 ?_
          refine stB K (k) (rfl) (by omega) dX1_scale_48 ?_
          refine x_iinc1 K [.ref (ad 0), .int (nI tn), .int (nI xn), .int y, .int (nI (k + 1))] dX1_scale_49 rfl (by decide) (Nat.le_of_ble_eq_true rfl) rfl ?_
          refine x_goto K 21 dX1_scale_52 (by decide) ?_
          exact ih (k + 1) _ (by omega) (fun c hc => by
            by_cases hck : c = k
            · rw [hck, pk_us]; exact (hM k (by omega)).symm
            · rw [pk_un hck]; exact hb c (by omega))
      exact key 36 0 b (by omega) (fun c hc => absurd hc (by omega))
    · skip
      refine x_iconst K (-1) dX1_scale_16 (by decide) ?_
      rw [hQ0]
      exact x_iret K hr hlocks dX1_scale_17 (a, b) (rfl) (sp_noM (by simp [*]))
set_option maxHeartbeats 8000000 in
theorem ctM_masked (l : Launch) {D : va_G} {ad : Nat → Nat} {bd : Nat → ClassId} {a b : Nat → Int32} {t y : Int32} : CtI l yX1_masked cX1_masked 7 (some .int) 3 D (tyM bd) [.ref (ad 0), .int t, .int y] (wM ad bd a b) (fun r (u : (Nat → Int32) × (Nat → Int32)) => r = spR (okb 5 t && okb 5 (kx y) && okb 5 (ky y) && okb 5 (kz y)) (mMsk a (kx y) (ky y) (kz y)) ∧ u.1 = spS (okb 5 t && okb 5 (kx y) && okb 5 (ky y) && okb 5 (kz y)) a t (mMsk a (kx y) (ky y) (kz y))) (fun u => wM ad bd u.1 u.2) := by
  refine x_enterI (own := RX1) (by decide) rfl (Nat.le_of_ble_eq_true rfl) (by simp [Value.category]) ?_
  intro p e s m args below meth c A K hr hlocks
  obtain ⟨Q0, hQ0⟩ : ∃ Q0 : State → Prop, Q0 = XQi below args s D (tyM bd) A (fun r (u : (Nat → Int32) × (Nat → Int32)) => r = spR (okb 5 t && okb 5 (kx y) && okb 5 (ky y) && okb 5 (kz y)) (mMsk a (kx y) (ky y) (kz y)) ∧ u.1 = spS (okb 5 t && okb 5 (kx y) && okb 5 (ky y) && okb 5 (kz y)) a t (mMsk a (kx y) (ky y) (kz y))) (fun u => wM ad bd u.1 u.2) := ⟨_, rfl⟩
  rw [← hQ0]
  obtain ⟨mx, hmx⟩ : ∃ mx, mx = kx y := ⟨_, rfl⟩
  obtain ⟨my, hmy⟩ : ∃ my, my = ky y := ⟨_, rfl⟩
  obtain ⟨mz, hmz⟩ : ∃ mz, mz = kz y := ⟨_, rfl⟩
  refine x_iload_n K dX1_masked_0 rfl ?_
  refine x_bipush K (nI 7) dX1_masked_1 (by decide) ?_
  refine x_iand K dX1_masked_3 ?_
  refine x_top (y := mx) (hmx.symm) ?_
  refine x_istore_n K [.ref (ad 0), .int t, .int y, .int mx] dX1_masked_4 (by decide) (Nat.le_of_ble_eq_true rfl) rfl ?_
  refine x_iload_n K dX1_masked_5 rfl ?_
  refine x_iconst K (nI 3) dX1_masked_6 (by decide) ?_
  refine x_ishr K dX1_masked_7 ?_
  refine x_bipush K (nI 7) dX1_masked_8 (by decide) ?_
  refine x_iand K dX1_masked_10 ?_
  refine x_top (y := my) (hmy.symm) ?_
  refine x_istore K [.ref (ad 0), .int t, .int y, .int mx, .int my] dX1_masked_11 (by decide) (Nat.le_of_ble_eq_true rfl) rfl ?_
  refine x_iload_n K dX1_masked_13 rfl ?_
  refine x_bipush K (nI 6) dX1_masked_14 (by decide) ?_
  refine x_ishr K dX1_masked_16 ?_
  refine x_top (y := mz) (hmz.symm) ?_
  refine x_istore K [.ref (ad 0), .int t, .int y, .int mx, .int my, .int mz] dX1_masked_17 (by decide) (Nat.le_of_ble_eq_true rfl) rfl ?_
  refine x_aload_n K dX1_masked_19 rfl ?_
  refine x_iload_n K dX1_masked_20 rfl ?_
  refine caM_slot K (by decide) (Nat.le_of_ble_eq_true rfl) dX1_masked_21 ?_
  refine x_if_eqB K 53 dX1_masked_24 (by decide) (fun h1 => ?_) (fun h1 => ?_)
  · skip
    refine x_iconst K (-1) dX1_masked_53 (by decide) ?_
    rw [hQ0]
    exact x_iret K hr hlocks dX1_masked_54 (a, b) (rfl) (sp_noM (by first | (rw [← hmx, ← hmy, ← hmz, h4]; simp; done) | (rw [← hmx, ← hmy, ← hmz, h3]; simp; done) | (rw [← hmx, h2]; simp; done) | (rw [h1]; rfl)))
  · skip
    refine x_aload_n K dX1_masked_27 rfl ?_
    refine x_iload_n K dX1_masked_28 rfl ?_
    refine caM_slot K (by decide) (Nat.le_of_ble_eq_true rfl) dX1_masked_29 ?_
    refine x_if_eqB K 53 dX1_masked_32 (by decide) (fun h2 => ?_) (fun h2 => ?_)
    · skip
      refine x_iconst K (-1) dX1_masked_53 (by decide) ?_
      rw [hQ0]
      exact x_iret K hr hlocks dX1_masked_54 (a, b) (rfl) (sp_noM (by first | (rw [← hmx, ← hmy, ← hmz, h4]; simp; done) | (rw [← hmx, ← hmy, ← hmz, h3]; simp; done) | (rw [← hmx, h2]; simp; done) | (rw [h1]; rfl)))
    · skip
      refine x_aload_n K dX1_masked_35 rfl ?_
      refine x_iload K dX1_masked_36 rfl ?_
      refine caM_slot K (by decide) (Nat.le_of_ble_eq_true rfl) dX1_masked_38 ?_
      refine x_if_eqB K 53 dX1_masked_41 (by decide) (fun h3 => ?_) (fun h3 => ?_)
      · skip
        refine x_iconst K (-1) dX1_masked_53 (by decide) ?_
        rw [hQ0]
        exact x_iret K hr hlocks dX1_masked_54 (a, b) (rfl) (sp_noM (by first | (rw [← hmx, ← hmy, ← hmz, h4]; simp; done) | (rw [← hmx, ← hmy, ← hmz, h3]; simp; done) | (rw [← hmx, h2]; simp; done) | (rw [h1]; rfl)))
      · skip
        refine x_aload_n K dX1_masked_44 rfl ?_
        refine x_iload K dX1_masked_45 rfl ?_
        refine caM_slot K (by decide) (Nat.le_of_ble_eq_true rfl) dX1_masked_47 ?_
        refine x_if_neB K 55 dX1_masked_50 (by decide) (fun h4 => ?_) (fun h4 => ?_)
        · skip
          obtain ⟨tn, ht, rfl⟩ := okb_of h1
          obtain ⟨xn, hx, rfl⟩ := okb_of h2
          obtain ⟨yn, hy, rfl⟩ := okb_of h3
          obtain ⟨zn, hz, rfl⟩ := okb_of h4
          have hok : (okb 5 (nI tn) && okb 5 (kx y) && okb 5 (ky y) && okb 5 (kz y)) = true := by rw [← hmx, ← hmy, ← hmz, h1, h2, h3, h4]; rfl
          obtain ⟨M, hMe⟩ : ∃ M, M = mMsk a (kx y) (ky y) (kz y) := ⟨_, rfl⟩
          have hM : ∀ c, c < 36 → M c = if sl a zn c = 0 then 0 else en (sl a xn) (sl a yn) (c / 6) (c % 6) := fun c _ => by rw [hMe, ← hmx, ← hmy, ← hmz]; unfold mMsk; rw [cN_nI (by omega), cN_nI (by omega), cN_nI (by omega)]
          refine x_iconst K (nI 0) dX1_masked_55 (by decide) ?_
          refine x_istore K [.ref (ad 0), .int (nI tn), .int y, .int (nI xn), .int (nI yn), .int (nI zn), .int (nI 0)] dX1_masked_56 (by decide) (Nat.le_of_ble_eq_true rfl) rfl ?_
          have key : ∀ (n : Nat) (k : Nat) (b : Nat → Int32), k + n = 36 → (∀ c, c < k → b c = M c) → XW p l e (rD 3) s m args below meth c 0 0 Q0 D A 7 (wM ad bd a b) 58 [.ref (ad 0), .int (nI tn), .int y, .int (nI xn), .int (nI yn), .int (nI zn), .int (nI k)] [] := by
            intro n
            induction n with
            | zero =>
              intro k b hk hb
              obtain rfl : k = 36 := by omega
              refine x_iload K dX1_masked_58 rfl ?_
              refine x_bipush K (nI 36) dX1_masked_60 (by decide) ?_
              refine x_cmpN_ge K 115 dX1_masked_62 (by decide) (by omega) (by omega) (fun _ => ?_) (fun q => absurd q (by omega))
              refine x_aload_n K dX1_masked_115 rfl ?_
              refine x_iload_n K dX1_masked_116 rfl ?_
              refine caM_keep K (by decide) ht (Nat.le_of_ble_eq_true rfl) dX1_masked_117 ?_
              rw [hQ0]
              exact x_iret K hr hlocks dX1_masked_120 (putm a tn b, b) (rfl) (by rw [← hMe]; exact sp_okM hok hb ht)
            | succ n ih =>
              intro k b hk hb
              by_cases h0 : sl a zn k = 0
              · skip
                refine x_iload K dX1_masked_58 rfl ?_
                refine x_bipush K (nI 36) dX1_masked_60 (by decide) ?_
                refine x_cmpN_ge K 115 dX1_masked_62 (by decide) (by omega) (by omega) (fun q => absurd q (by omega)) (fun _ => ?_)
                refine x_aload_n K dX1_masked_65 rfl ?_
                refine gtB K dX1_masked_66 ?_
                refine x_iload K dX1_masked_69 rfl ?_
                refine x_aload_n K dX1_masked_71 rfl ?_
                refine gtA K dX1_masked_72 ?_
                refine x_bipush K (nI 36) dX1_masked_75 (by decide) ?_
                refine x_iload K dX1_masked_77 rfl ?_
                refine x_imulN K dX1_masked_79 ?_
                refine x_iload K dX1_masked_80 rfl ?_
                refine x_iaddN K dX1_masked_82 ?_
                refine ldA K (36 * zn + k) (by omega) (by omega) (x := (sl a zn k)) (rfl) dX1_masked_83 ?_
                refine x_if_eq K 107 dX1_masked_84 (by decide) (fun _ => ?_) (fun q => absurd q (fun z => z h0))
                refine x_iconst K (nI 0) dX1_masked_107 (by decide) ?_
                refine stB K (k) (rfl) (by omega) dX1_masked_108 ?_
                refine x_iinc1 K [.ref (ad 0), .int (nI tn), .int y, .int (nI xn), .int (nI yn), .int (nI zn), .int (nI (k + 1))] dX1_masked_109 rfl (by decide) (Nat.le_of_ble_eq_true rfl) rfl ?_
                refine x_goto K 58 dX1_masked_112 (by decide) ?_
                exact ih (k + 1) _ (by omega) (fun c hc => by
                  by_cases hck : c = k
                  · rw [hck, pk_us]; rw [hM k (by omega), if_pos h0]; rfl
                  · rw [pk_un hck]; exact hb c (by omega))
              · skip
                refine x_iload K dX1_masked_58 rfl ?_
                refine x_bipush K (nI 36) dX1_masked_60 (by decide) ?_
                refine x_cmpN_ge K 115 dX1_masked_62 (by decide) (by omega) (by omega) (fun q => absurd q (by omega)) (fun _ => ?_)
                refine x_aload_n K dX1_masked_65 rfl ?_
                refine gtB K dX1_masked_66 ?_
                refine x_iload K dX1_masked_69 rfl ?_
                refine x_aload_n K dX1_masked_71 rfl ?_
                refine gtA K dX1_masked_72 ?_
                refine x_bipush K (nI 36) dX1_masked_75 (by decide) ?_
                refine x_iload K dX1_masked_77 rfl ?_
                refine x_imulN K dX1_masked_79 ?_
                refine x_iload K dX1_masked_80 rfl ?_
                refine x_iaddN K dX1_masked_82 ?_
                refine ldA K (36 * zn + k) (by omega) (by omega) (x := (sl a zn k)) (rfl) dX1_masked_83 ?_
                refine x_if_eq K 107 dX1_masked_84 (by decide) (fun q => absurd q (h0)) (fun _ => ?_)
                refine x_aload_n K dX1_masked_87 rfl ?_
                refine x_iload_n K dX1_masked_88 rfl ?_
                refine x_iload K dX1_masked_89 rfl ?_
                refine x_iload K dX1_masked_91 rfl ?_
                refine x_bipush K (nI 6) dX1_masked_93 (by decide) ?_
                refine x_idivN K dX1_masked_95 (by omega) (by omega) (by omega) ?_
                refine x_iload K dX1_masked_96 rfl ?_
                refine x_bipush K (nI 6) dX1_masked_98 (by decide) ?_
                refine x_iremN K dX1_masked_100 (by omega) (by omega) (by omega) ?_
                refine caM_entry K (by decide) hx hy (by omega) (by omega) (Nat.le_of_ble_eq_true rfl) dX1_masked_101 ?_
                refine x_goto K 108 dX1_masked_104 (by decide) ?_
                refine stB K (k) (rfl) (by omega) dX1_masked_108 ?_
                refine x_iinc1 K [.ref (ad 0), .int (nI tn), .int y, .int (nI xn), .int (nI yn), .int (nI zn), .int (nI (k + 1))] dX1_masked_109 rfl (by decide) (Nat.le_of_ble_eq_true rfl) rfl ?_
                refine x_goto K 58 dX1_masked_112 (by decide) ?_
                exact ih (k + 1) _ (by omega) (fun c hc => by
                  by_cases hck : c = k
                  · rw [hck, pk_us]; rw [hM k (by omega), if_neg h0]
                  · rw [pk_un hck]; exact hb c (by omega))
          exact key 36 0 b (by omega) (fun c hc => absurd hc (by omega))
        · skip
          refine x_iconst K (-1) dX1_masked_53 (by decide) ?_
          rw [hQ0]
          exact x_iret K hr hlocks dX1_masked_54 (a, b) (rfl) (sp_noM (by first | (rw [← hmx, ← hmy, ← hmz, h4]; simp; done) | (rw [← hmx, ← hmy, ← hmz, h3]; simp; done) | (rw [← hmx, h2]; simp; done) | (rw [h1]; rfl)))
set_option maxHeartbeats 8000000 in
theorem ctM_select (l : Launch) {D : va_G} {ad : Nat → Nat} {bd : Nat → ClassId} {a b : Nat → Int32} {t x y : Int32} : CtI l yX1_select cX1_select 6 (some .int) 3 D (tyM bd) [.ref (ad 0), .int t, .int x, .int y] (wM ad bd a b) (fun r (u : (Nat → Int32) × (Nat → Int32)) => r = spR (okb 5 t && okb 5 x && decide (¬ y < 0) && decide (¬ nI 4095 < y)) (mSel a x y) ∧ u.1 = spS (okb 5 t && okb 5 x && decide (¬ y < 0) && decide (¬ nI 4095 < y)) a t (mSel a x y)) (fun u => wM ad bd u.1 u.2) := by
  refine x_enterI (own := RX1) (by decide) rfl (Nat.le_of_ble_eq_true rfl) (by simp [Value.category]) ?_
  intro p e s m args below meth c A K hr hlocks
  obtain ⟨Q0, hQ0⟩ : ∃ Q0 : State → Prop, Q0 = XQi below args s D (tyM bd) A (fun r (u : (Nat → Int32) × (Nat → Int32)) => r = spR (okb 5 t && okb 5 x && decide (¬ y < 0) && decide (¬ nI 4095 < y)) (mSel a x y) ∧ u.1 = spS (okb 5 t && okb 5 x && decide (¬ y < 0) && decide (¬ nI 4095 < y)) a t (mSel a x y)) (fun u => wM ad bd u.1 u.2) := ⟨_, rfl⟩
  rw [← hQ0]
  refine x_aload_n K dX1_select_0 rfl ?_
  refine x_iload_n K dX1_select_1 rfl ?_
  refine caM_slot K (by decide) (Nat.le_of_ble_eq_true rfl) dX1_select_2 ?_
  refine x_if_eqB K 27 dX1_select_5 (by decide) (fun h1 => ?_) (fun h1 => ?_)
  · skip
    refine x_iconst K (-1) dX1_select_27 (by decide) ?_
    rw [hQ0]
    exact x_iret K hr hlocks dX1_select_28 (a, b) (rfl) (sp_noM (by simp [h1]))
  · skip
    refine x_aload_n K dX1_select_8 rfl ?_
    refine x_iload_n K dX1_select_9 rfl ?_
    refine caM_slot K (by decide) (Nat.le_of_ble_eq_true rfl) dX1_select_10 ?_
    refine x_if_eqB K 27 dX1_select_13 (by decide) (fun h2 => ?_) (fun h2 => ?_)
    · skip
      refine x_iconst K (-1) dX1_select_27 (by decide) ?_
      rw [hQ0]
      exact x_iret K hr hlocks dX1_select_28 (a, b) (rfl) (sp_noM (by simp [h2]))
    · skip
      refine x_iload_n K dX1_select_16 rfl ?_
      refine x_if_lt K 27 dX1_select_17 (by decide) (fun h3 => ?_) (fun h3 => ?_)
      · skip
        refine x_iconst K (-1) dX1_select_27 (by decide) ?_
        rw [hQ0]
        exact x_iret K hr hlocks dX1_select_28 (a, b) (rfl) (sp_noM (by simp [h3]))
      · skip
        refine x_iload_n K dX1_select_20 rfl ?_
        refine x_sipush K (nI 4095) dX1_select_21 (by decide) ?_
        refine x_cmp_le K 29 dX1_select_24 (by decide) (fun h4 => ?_) (fun h4 => ?_)
        · skip
          have h4 : ¬ nI 4095 < y := fun z => absurd (Int32.lt_iff_toInt_lt.mp z) (by have := Int32.le_iff_toInt_le.mp h4; omega)
          obtain ⟨tn, ht, rfl⟩ := okb_of h1
          obtain ⟨xn, hx, rfl⟩ := okb_of h2
          have hok : (okb 5 (nI tn) && okb 5 (nI xn) && decide (¬ y < 0) && decide (¬ nI 4095 < y)) = true := by rw [h1, h2, decide_eq_true h3, decide_eq_true h4]; rfl
          obtain ⟨M, hMe⟩ : ∃ M, M = mSel a (nI xn) y := ⟨_, rfl⟩
          have hM : ∀ c, c < 36 → M c = if bt1 y (c / 6) = 1 ∧ bt1 y (6 + c % 6) = 1 then sl a xn c else 0 := fun c _ => by rw [hMe]; unfold mSel; rw [cN_nI (by omega)]
          refine x_iconst K (nI 0) dX1_select_29 (by decide) ?_
          refine x_istore K [.ref (ad 0), .int (nI tn), .int (nI xn), .int y, .int (nI 0)] dX1_select_30 (by decide) (Nat.le_of_ble_eq_true rfl) rfl ?_
          have key : ∀ (n : Nat) (k : Nat) (b : Nat → Int32), k + n = 36 → (∀ c, c < k → b c = M c) → XW p l e (rD 3) s m args below meth c 0 0 Q0 D A 6 (wM ad bd a b) 32 [.ref (ad 0), .int (nI tn), .int (nI xn), .int y, .int (nI k)] [] := by
            intro n
            induction n with
            | zero =>
              intro k b hk hb
              obtain rfl : k = 36 := by omega
              refine x_iload K dX1_select_32 rfl ?_
              refine x_bipush K (nI 36) dX1_select_34 (by decide) ?_
              refine x_cmpN_ge K 109 dX1_select_36 (by decide) (by omega) (by omega) (fun _ => ?_) (fun q => absurd q (by omega))
              refine x_aload_n K dX1_select_109 rfl ?_
              refine x_iload_n K dX1_select_110 rfl ?_
              refine caM_keep K (by decide) ht (Nat.le_of_ble_eq_true rfl) dX1_select_111 ?_
              rw [hQ0]
              exact x_iret K hr hlocks dX1_select_114 (putm a tn b, b) (rfl) (by rw [← hMe]; exact sp_okM hok hb ht)
            | succ n ih =>
              intro k b hk hb
              refine x_iload K dX1_select_32 rfl ?_
              refine x_bipush K (nI 36) dX1_select_34 (by decide) ?_
              refine x_cmpN_ge K 109 dX1_select_36 (by decide) (by omega) (by omega) (fun q => absurd q (by omega)) (fun _ => ?_)
              refine x_iload_n K dX1_select_39 rfl ?_
              refine x_iload K dX1_select_40 rfl ?_
              refine x_bipush K (nI 6) dX1_select_42 (by decide) ?_
              refine x_idivN K dX1_select_44 (by omega) (by omega) (by omega) ?_
              refine x_ishr K dX1_select_45 ?_
              refine x_iconst K (nI 1) dX1_select_46 (by decide) ?_
              refine x_iand K dX1_select_47 ?_
              refine x_top (y := (bt1 y (k / 6))) (rfl) ?_
              rcases bt1_01 y (k / 6) with hk0 | hk1
              · skip
                refine x_iconst K (nI 1) dX1_select_48 (by decide) ?_
                refine x_cmp_ne K 72 dX1_select_49 (by decide) (fun _ => ?_) (fun q => absurd q (by rw [hk0]; decide))
                refine x_iconst K (nI 0) dX1_select_72 (by decide) ?_
                refine x_istore K [.ref (ad 0), .int (nI tn), .int (nI xn), .int y, .int (nI k), .int (nI 0)] dX1_select_73 (by decide) (Nat.le_of_ble_eq_true rfl) rfl ?_
                refine x_aload_n K dX1_select_75 rfl ?_
                refine gtB K dX1_select_76 ?_
                refine x_iload K dX1_select_79 rfl ?_
                refine x_iload K dX1_select_81 rfl ?_
                refine x_if_eq K 101 dX1_select_83 (by decide) (fun _ => ?_) (fun q => absurd q (fun z => z rfl))
                refine x_iconst K (nI 0) dX1_select_101 (by decide) ?_
                refine stB K (k) (rfl) (by omega) dX1_select_102 ?_
                refine x_iinc1 K [.ref (ad 0), .int (nI tn), .int (nI xn), .int y, .int (nI (k + 1)), .int (nI 0)] dX1_select_103 rfl (by decide) (Nat.le_of_ble_eq_true rfl) rfl ?_
                refine x_goto K 32 dX1_select_106 (by decide) ?_
                refine x_drop [.ref (ad 0), .int (nI tn), .int (nI xn), .int y, .int (nI (k + 1))] 5 rfl ?_
                exact ih (k + 1) _ (by omega) (fun c hc => by
                  by_cases hck : c = k
                  · rw [hck, pk_us]; rw [hM k (by omega), if_neg (fun z => absurd (hk0.symm.trans z.1) (by decide))]; rfl
                  · rw [pk_un hck]; exact hb c (by omega))
              · skip
                refine x_iconst K (nI 1) dX1_select_48 (by decide) ?_
                refine x_cmp_ne K 72 dX1_select_49 (by decide) (fun q => absurd q (fun z => z hk1)) (fun _ => ?_)
                refine x_iload_n K dX1_select_52 rfl ?_
                refine x_bipush K (nI 6) dX1_select_53 (by decide) ?_
                refine x_iload K dX1_select_55 rfl ?_
                refine x_bipush K (nI 6) dX1_select_57 (by decide) ?_
                refine x_iremN K dX1_select_59 (by omega) (by omega) (by omega) ?_
                refine x_iaddN K dX1_select_60 ?_
                refine x_ishr K dX1_select_61 ?_
                refine x_iconst K (nI 1) dX1_select_62 (by decide) ?_
                refine x_iand K dX1_select_63 ?_
                refine x_top (y := (bt1 y (6 + k % 6))) (rfl) ?_
                rcases bt1_01 y (6 + k % 6) with hq0 | hq1
                · skip
                  refine x_iconst K (nI 1) dX1_select_64 (by decide) ?_
                  refine x_cmp_ne K 72 dX1_select_65 (by decide) (fun _ => ?_) (fun q => absurd q (by rw [hq0]; decide))
                  refine x_iconst K (nI 0) dX1_select_72 (by decide) ?_
                  refine x_istore K [.ref (ad 0), .int (nI tn), .int (nI xn), .int y, .int (nI k), .int (nI 0)] dX1_select_73 (by decide) (Nat.le_of_ble_eq_true rfl) rfl ?_
                  refine x_aload_n K dX1_select_75 rfl ?_
                  refine gtB K dX1_select_76 ?_
                  refine x_iload K dX1_select_79 rfl ?_
                  refine x_iload K dX1_select_81 rfl ?_
                  refine x_if_eq K 101 dX1_select_83 (by decide) (fun _ => ?_) (fun q => absurd q (fun z => z rfl))
                  refine x_iconst K (nI 0) dX1_select_101 (by decide) ?_
                  refine stB K (k) (rfl) (by omega) dX1_select_102 ?_
                  refine x_iinc1 K [.ref (ad 0), .int (nI tn), .int (nI xn), .int y, .int (nI (k + 1)), .int (nI 0)] dX1_select_103 rfl (by decide) (Nat.le_of_ble_eq_true rfl) rfl ?_
                  refine x_goto K 32 dX1_select_106 (by decide) ?_
                  refine x_drop [.ref (ad 0), .int (nI tn), .int (nI xn), .int y, .int (nI (k + 1))] 5 rfl ?_
                  exact ih (k + 1) _ (by omega) (fun c hc => by
                    by_cases hck : c = k
                    · rw [hck, pk_us]; rw [hM k (by omega), if_neg (fun z => absurd (hq0.symm.trans z.2) (by decide))]; rfl
                    · rw [pk_un hck]; exact hb c (by omega))
                · skip
                  refine x_iconst K (nI 1) dX1_select_64 (by decide) ?_
                  refine x_cmp_ne K 72 dX1_select_65 (by decide) (fun q => absurd q (fun z => z hq1)) (fun _ => ?_)
                  refine x_iconst K (nI 1) dX1_select_68 (by decide) ?_
                  refine x_goto K 73 dX1_select_69 (by decide) ?_
                  refine x_istore K [.ref (ad 0), .int (nI tn), .int (nI xn), .int y, .int (nI k), .int (nI 1)] dX1_select_73 (by decide) (Nat.le_of_ble_eq_true rfl) rfl ?_
                  refine x_aload_n K dX1_select_75 rfl ?_
                  refine gtB K dX1_select_76 ?_
                  refine x_iload K dX1_select_79 rfl ?_
                  refine x_iload K dX1_select_81 rfl ?_
                  refine x_if_eq K 101 dX1_select_83 (by decide) (fun q => absurd q (by decide)) (fun _ => ?_)
                  refine x_aload_n K dX1_select_86 rfl ?_
                  refine gtA K dX1_select_87 ?_
                  refine x_bipush K (nI 36) dX1_select_90 (by decide) ?_
                  refine x_iload_n K dX1_select_92 rfl ?_
                  refine x_imulN K dX1_select_93 ?_
                  refine x_iload K dX1_select_94 rfl ?_
                  refine x_iaddN K dX1_select_96 ?_
                  refine ldA K (36 * xn + k) (by omega) (by omega) (x := (sl a xn k)) (rfl) dX1_select_97 ?_
                  refine x_goto K 102 dX1_select_98 (by decide) ?_
                  refine stB K (k) (rfl) (by omega) dX1_select_102 ?_
                  refine x_iinc1 K [.ref (ad 0), .int (nI tn), .int (nI xn), .int y, .int (nI (k + 1)), .int (nI 1)] dX1_select_103 rfl (by decide) (Nat.le_of_ble_eq_true rfl) rfl ?_
                  refine x_goto K 32 dX1_select_106 (by decide) ?_
                  refine x_drop [.ref (ad 0), .int (nI tn), .int (nI xn), .int y, .int (nI (k + 1))] 5 rfl ?_
                  exact ih (k + 1) _ (by omega) (fun c hc => by
                    by_cases hck : c = k
                    · rw [hck, pk_us]; rw [hM k (by omega), if_pos ⟨hk1, hq1⟩]
                    · rw [pk_un hck]; exact hb c (by omega))
          exact key 36 0 b (by omega) (fun c hc => absurd hc (by omega))
        · skip
          have h4 : nI 4095 < y := Int32.lt_iff_toInt_lt.mpr (by have : ¬ y.toInt ≤ (nI 4095).toInt := fun z => h4 (Int32.le_iff_toInt_le.mpr z); omega)
          refine x_iconst K (-1) dX1_select_27 (by decide) ?_
          rw [hQ0]
          exact x_iret K hr hlocks dX1_select_28 (a, b) (rfl) (sp_noM (by simp [h4]))
end
section
set_option maxRecDepth 100000
/-! SparseKernelsModel: at, next, rowsProduct, sum, same, symmetric -/
set_option maxHeartbeats 8000000 in
theorem ctM_at (l : Launch) {D : va_G} {ad : Nat → Nat} {bd : Nat → ClassId} {a b : Nat → Int32} {t x y : Int32} : CtI l yX1_at cX1_at 4 (some .int) 1 D (tyM bd) [.ref (ad 0), .int t, .int x, .int y] (wM ad bd a b) (fun r (_ : Unit) => r = vAt a t x y) (fun _ => wM ad bd a b) := by
  refine x_enterI (own := RX1) (by decide) rfl (Nat.le_of_ble_eq_true rfl) (by simp [Value.category]) ?_
  intro p e s m args below meth c A K hr hlocks
  obtain ⟨Q0, hQ0⟩ : ∃ Q0 : State → Prop, Q0 = XQi below args s D (tyM bd) A (fun r (_ : Unit) => r = vAt a t x y) (fun _ => wM ad bd a b) := ⟨_, rfl⟩
  rw [← hQ0]
  refine x_aload_n K dX1_at_0 rfl ?_
  refine x_iload_n K dX1_at_1 rfl ?_
  refine caM_slot K (by decide) (Nat.le_of_ble_eq_true rfl) dX1_at_2 ?_
  refine x_if_eqB K 34 dX1_at_5 (by decide) (fun h1 => ?_) (fun h1 => ?_)
  · skip
    refine x_iconst K (nI 0) dX1_at_34 (by decide) ?_
    rw [hQ0]
    exact x_iret K hr hlocks dX1_at_35 () (rfl) (by unfold vAt; rw [show (okb 5 t && okb 6 x && okb 6 y) = false by simp [*]]; rfl)
  · skip
    refine x_aload_n K dX1_at_8 rfl ?_
    refine x_iload_n K dX1_at_9 rfl ?_
    refine caM_line K (by decide) (Nat.le_of_ble_eq_true rfl) dX1_at_10 ?_
    refine x_if_eqB K 34 dX1_at_13 (by decide) (fun h2 => ?_) (fun h2 => ?_)
    · skip
      refine x_iconst K (nI 0) dX1_at_34 (by decide) ?_
      rw [hQ0]
      exact x_iret K hr hlocks dX1_at_35 () (rfl) (by unfold vAt; rw [show (okb 5 t && okb 6 x && okb 6 y) = false by simp [*]]; rfl)
    · skip
      refine x_aload_n K dX1_at_16 rfl ?_
      refine x_iload_n K dX1_at_17 rfl ?_
      refine caM_line K (by decide) (Nat.le_of_ble_eq_true rfl) dX1_at_18 ?_
      refine x_if_eqB K 34 dX1_at_21 (by decide) (fun h3 => ?_) (fun h3 => ?_)
      · skip
        refine x_iconst K (nI 0) dX1_at_34 (by decide) ?_
        rw [hQ0]
        exact x_iret K hr hlocks dX1_at_35 () (rfl) (by unfold vAt; rw [show (okb 5 t && okb 6 x && okb 6 y) = false by simp [*]]; rfl)
      · skip
        obtain ⟨tn, ht, rfl⟩ := okb_of h1
        obtain ⟨xn, hx, rfl⟩ := okb_of h2
        obtain ⟨yn, hy, rfl⟩ := okb_of h3
        refine x_aload_n K dX1_at_24 rfl ?_
        refine x_iload_n K dX1_at_25 rfl ?_
        refine x_iload_n K dX1_at_26 rfl ?_
        refine x_iload_n K dX1_at_27 rfl ?_
        refine caM_cell K (by decide) ht (hx) (hy) (Nat.le_of_ble_eq_true rfl) dX1_at_28 ?_
        refine x_goto K 35 dX1_at_31 (by decide) ?_
        rw [hQ0]
        exact x_iret K hr hlocks dX1_at_35 () (rfl) (by unfold vAt; rw [h1, h2, h3, Bool.and_self, Bool.and_self, if_pos rfl, cN_nI (by omega), cN_nI (by omega), cN_nI (by omega), Nat.add_assoc]; rfl)
set_option maxHeartbeats 8000000 in
theorem ctM_next (l : Launch) {D : va_G} {ad : Nat → Nat} {bd : Nat → ClassId} {a b : Nat → Int32} {t x y : Int32} : CtI l yX1_next cX1_next 5 (some .int) 1 D (tyM bd) [.ref (ad 0), .int t, .int x, .int y] (wM ad bd a b) (fun r (_ : Unit) => r = vNxt a t x y) (fun _ => wM ad bd a b) := by
  refine x_enterI (own := RX1) (by decide) rfl (Nat.le_of_ble_eq_true rfl) (by simp [Value.category]) ?_
  intro p e s m args below meth c A K hr hlocks
  obtain ⟨Q0, hQ0⟩ : ∃ Q0 : State → Prop, Q0 = XQi below args s D (tyM bd) A (fun r (_ : Unit) => r = vNxt a t x y) (fun _ => wM ad bd a b) := ⟨_, rfl⟩
  rw [← hQ0]
  rcases Bool.eq_false_or_eq_true (okb 5 t) with h1 | h1
  · skip
    rcases Bool.eq_false_or_eq_true (okb 6 x) with h2 | h2
    · skip
      obtain ⟨tn, ht, rfl⟩ := okb_of h1
      obtain ⟨xn, hx, rfl⟩ := okb_of h2
      obtain ⟨f, hfe⟩ : ∃ f : Nat → Int32, f = fun k => sl a tn (6 * xn + k) := ⟨_, rfl⟩
      have hval : vNxt a (nI tn) (nI xn) y = nx f y 6 0 := by unfold vNxt; rw [h1, h2, Bool.and_self, if_pos rfl, cN_nI (by omega), cN_nI (by omega), hfe]
      have hk : ∀ k, f k = sl a tn (6 * xn + k) := fun k => by rw [hfe]
      refine x_iconst K (nI 0) dX1_next_0 (by decide) ?_
      refine x_istore K [.ref (ad 0), .int (nI tn), .int (nI xn), .int y, .int (nI 0)] dX1_next_1 (by decide) (Nat.le_of_ble_eq_true rfl) rfl ?_
      have key : ∀ (n : Nat) (k : Nat), k + n = 6 → vNxt a (nI tn) (nI xn) y = nx f y n k → XW p l e (rD 1) s m args below meth c 0 0 Q0 D A 5 (wM ad bd a b) 3 [.ref (ad 0), .int (nI tn), .int (nI xn), .int y, .int (nI k)] [] := by
        intro n
        induction n with
        | zero =>
          intro k hk2 hv
          refine x_iload K dX1_next_3 rfl ?_
          refine x_bipush K (nI 6) dX1_next_5 (by decide) ?_
          refine x_cmpN_ge K 52 dX1_next_7 (by decide) (by omega) (by omega) (fun _ => ?_) (fun q => absurd q (by omega))
          refine x_iconst K (-1) dX1_next_52 (by decide) ?_
          rw [hQ0]
          exact x_iret K hr hlocks dX1_next_53 () (rfl) (by rw [hv]; rfl)
        | succ n ih =>
          intro k hk2 hv
          have hv2 : nx f y (n + 1) k = if y ≤ nI k ∧ f k ≠ 0 then nI k else nx f y n (k + 1) := rfl
          refine x_iload K dX1_next_3 rfl ?_
          refine x_bipush K (nI 6) dX1_next_5 (by decide) ?_
          refine x_cmpN_ge K 52 dX1_next_7 (by decide) (by omega) (by omega) (fun q => absurd q (by omega)) (fun _ => ?_)
          refine x_aload_n K dX1_next_10 rfl ?_
          refine x_iload_n K dX1_next_11 rfl ?_
          refine caM_slot K (by decide) (Nat.le_of_ble_eq_true rfl) dX1_next_12 ?_
          refine x_if_eqB K 52 dX1_next_15 (by decide) (fun q => absurd q (by rw [h1]; decide)) (fun _ => ?_)
          refine x_aload_n K dX1_next_18 rfl ?_
          refine x_iload_n K dX1_next_19 rfl ?_
          refine caM_line K (by decide) (Nat.le_of_ble_eq_true rfl) dX1_next_20 ?_
          refine x_if_eqB K 52 dX1_next_23 (by decide) (fun q => absurd q (by rw [h2]; decide)) (fun _ => ?_)
          refine x_iload K dX1_next_26 rfl ?_
          refine x_iload_n K dX1_next_28 rfl ?_
          refine x_cmp_lt K 46 dX1_next_29 (by decide) (fun hlt => ?_) (fun hlt => ?_)
          · skip
            refine x_iinc1 K [.ref (ad 0), .int (nI tn), .int (nI xn), .int y, .int (nI (k + 1))] dX1_next_46 rfl (by decide) (Nat.le_of_ble_eq_true rfl) rfl ?_
            refine x_goto K 3 dX1_next_49 (by decide) ?_
            exact ih (k + 1) (by omega) (by rw [hv, hv2, if_neg (fun z => Int32.not_lt.mpr z.1 hlt)])
          · skip
            by_cases h0 : sl a tn (6 * xn + k) = 0
            · skip
              refine x_aload_n K dX1_next_32 rfl ?_
              refine x_iload_n K dX1_next_33 rfl ?_
              refine x_iload_n K dX1_next_34 rfl ?_
              refine x_iload K dX1_next_35 rfl ?_
              refine caM_cell K (by decide) ht (hx) (by omega) (Nat.le_of_ble_eq_true rfl) dX1_next_37 ?_
              refine x_if_eq K 46 dX1_next_40 (by decide) (fun _ => ?_) (fun q => absurd q (fun z => z h0))
              refine x_iinc1 K [.ref (ad 0), .int (nI tn), .int (nI xn), .int y, .int (nI (k + 1))] dX1_next_46 rfl (by decide) (Nat.le_of_ble_eq_true rfl) rfl ?_
              refine x_goto K 3 dX1_next_49 (by decide) ?_
              exact ih (k + 1) (by omega) (by rw [hv, hv2, if_neg (fun z => z.2 (by rw [hk]; exact h0))])
            · skip
              refine x_aload_n K dX1_next_32 rfl ?_
              refine x_iload_n K dX1_next_33 rfl ?_
              refine x_iload_n K dX1_next_34 rfl ?_
              refine x_iload K dX1_next_35 rfl ?_
              refine caM_cell K (by decide) ht (hx) (by omega) (Nat.le_of_ble_eq_true rfl) dX1_next_37 ?_
              refine x_if_eq K 46 dX1_next_40 (by decide) (fun q => absurd q (h0)) (fun _ => ?_)
              refine x_iload K dX1_next_43 rfl ?_
              rw [hQ0]
              exact x_iret K hr hlocks dX1_next_45 () (rfl) (by rw [hv, hv2, if_pos ⟨Int32.not_lt.mp hlt, by rw [hk]; exact h0⟩])
      exact key 6 0 (by omega) hval
    · skip
      refine x_iconst K (nI 0) dX1_next_0 (by decide) ?_
      refine x_istore K [.ref (ad 0), .int t, .int x, .int y, .int (nI 0)] dX1_next_1 (by decide) (Nat.le_of_ble_eq_true rfl) rfl ?_
      refine x_iload K dX1_next_3 rfl ?_
      refine x_bipush K (nI 6) dX1_next_5 (by decide) ?_
      refine x_cmpN_ge K 52 dX1_next_7 (by decide) (by omega) (by omega) (fun q => absurd q (by omega)) (fun _ => ?_)
      refine x_aload_n K dX1_next_10 rfl ?_
      refine x_iload_n K dX1_next_11 rfl ?_
      refine caM_slot K (by decide) (Nat.le_of_ble_eq_true rfl) dX1_next_12 ?_
      refine x_if_eqB K 52 dX1_next_15 (by decide) (fun q => absurd q (by rw [h1]; decide)) (fun _ => ?_)
      refine x_aload_n K dX1_next_18 rfl ?_
      refine x_iload_n K dX1_next_19 rfl ?_
      refine caM_line K (by decide) (Nat.le_of_ble_eq_true rfl) dX1_next_20 ?_
      refine x_if_eqB K 52 dX1_next_23 (by decide) (fun _ => ?_) (fun q => absurd q (by rw [h2]; decide))
      refine x_iconst K (-1) dX1_next_52 (by decide) ?_
      rw [hQ0]
      exact x_iret K hr hlocks dX1_next_53 () (rfl) (by unfold vNxt; rw [h1, h2]; rfl)
  · skip
    refine x_iconst K (nI 0) dX1_next_0 (by decide) ?_
    refine x_istore K [.ref (ad 0), .int t, .int x, .int y, .int (nI 0)] dX1_next_1 (by decide) (Nat.le_of_ble_eq_true rfl) rfl ?_
    refine x_iload K dX1_next_3 rfl ?_
    refine x_bipush K (nI 6) dX1_next_5 (by decide) ?_
    refine x_cmpN_ge K 52 dX1_next_7 (by decide) (by omega) (by omega) (fun q => absurd q (by omega)) (fun _ => ?_)
    refine x_aload_n K dX1_next_10 rfl ?_
    refine x_iload_n K dX1_next_11 rfl ?_
    refine caM_slot K (by decide) (Nat.le_of_ble_eq_true rfl) dX1_next_12 ?_
    refine x_if_eqB K 52 dX1_next_15 (by decide) (fun _ => ?_) (fun q => absurd q (by rw [h1]; decide))
    refine x_iconst K (-1) dX1_next_52 (by decide) ?_
    rw [hQ0]
    exact x_iret K hr hlocks dX1_next_53 () (rfl) (by unfold vNxt; rw [h1]; rfl)
set_option maxHeartbeats 8000000 in
theorem ctM_rowsProduct (l : Launch) {D : va_G} {ad : Nat → Nat} {bd : Nat → ClassId} {a b : Nat → Int32} {t x q y : Int32} : CtI l yX1_rowsProduct cX1_rowsProduct 7 (some .int) 1 D (tyM bd) [.ref (ad 0), .int t, .int x, .int q, .int y] (wM ad bd a b) (fun r (_ : Unit) => r = vRow a t x q y) (fun _ => wM ad bd a b) := by
  refine x_enterI (own := RX1) (by decide) rfl (Nat.le_of_ble_eq_true rfl) (by simp [Value.category]) ?_
  intro p e s m args below meth c A K hr hlocks
  obtain ⟨Q0, hQ0⟩ : ∃ Q0 : State → Prop, Q0 = XQi below args s D (tyM bd) A (fun r (_ : Unit) => r = vRow a t x q y) (fun _ => wM ad bd a b) := ⟨_, rfl⟩
  rw [← hQ0]
  rcases Bool.eq_false_or_eq_true (okb 5 t) with h1 | h1
  · skip
    rcases Bool.eq_false_or_eq_true (okb 5 q) with h2 | h2
    · skip
      rcases Bool.eq_false_or_eq_true (okb 6 x) with h3 | h3
      · skip
        rcases Bool.eq_false_or_eq_true (okb 6 y) with h4 | h4
        · skip
          obtain ⟨tn, ht, rfl⟩ := okb_of h1
          obtain ⟨qn, hq, rfl⟩ := okb_of h2
          obtain ⟨xn, hx, rfl⟩ := okb_of h3
          obtain ⟨yn, hy, rfl⟩ := okb_of h4
          have hval : vRow a (nI tn) (nI xn) (nI qn) (nI yn) = sm (fun k => sl a tn (6 * xn + k) * sl a qn (6 * yn + k)) 6 := by unfold vRow; rw [h1, h2, h3, h4, Bool.and_self, Bool.and_self, Bool.and_self, if_pos rfl, cN_nI (by omega), cN_nI (by omega), cN_nI (by omega), cN_nI (by omega)]
          refine x_iconst K (nI 0) dX1_rowsProduct_0 (by decide) ?_
          refine x_istore K [.ref (ad 0), .int (nI tn), .int (nI xn), .int (nI qn), .int (nI yn), .int (nI 0)] dX1_rowsProduct_1 (by decide) (Nat.le_of_ble_eq_true rfl) rfl ?_
          refine x_iconst K (nI 0) dX1_rowsProduct_3 (by decide) ?_
          refine x_istore K [.ref (ad 0), .int (nI tn), .int (nI xn), .int (nI qn), .int (nI yn), .int (nI 0), .int (nI 0)] dX1_rowsProduct_4 (by decide) (Nat.le_of_ble_eq_true rfl) rfl ?_
          have key : ∀ (n : Nat) (k : Nat) (sv : Int32), k + n = 6 → sv = sm (fun k => sl a tn (6 * xn + k) * sl a qn (6 * yn + k)) k → XW p l e (rD 1) s m args below meth c 0 0 Q0 D A 7 (wM ad bd a b) 6 [.ref (ad 0), .int (nI tn), .int (nI xn), .int (nI qn), .int (nI yn), .int sv, .int (nI k)] [] := by
            intro n
            induction n with
            | zero =>
              intro k sv hk hsv
              obtain rfl : k = 6 := by omega
              refine x_iload K dX1_rowsProduct_6 rfl ?_
              refine x_bipush K (nI 6) dX1_rowsProduct_8 (by decide) ?_
              refine x_cmpN_ge K 75 dX1_rowsProduct_10 (by decide) (by omega) (by omega) (fun _ => ?_) (fun q => absurd q (by omega))
              refine x_iload K dX1_rowsProduct_75 rfl ?_
              rw [hQ0]
              exact x_iret K hr hlocks dX1_rowsProduct_77 () (rfl) (by rw [hval]; exact hsv)
            | succ n ih =>
              intro k sv hk hsv
              refine x_iload K dX1_rowsProduct_6 rfl ?_
              refine x_bipush K (nI 6) dX1_rowsProduct_8 (by decide) ?_
              refine x_cmpN_ge K 75 dX1_rowsProduct_10 (by decide) (by omega) (by omega) (fun q => absurd q (by omega)) (fun _ => ?_)
              refine x_aload_n K dX1_rowsProduct_13 rfl ?_
              refine x_iload_n K dX1_rowsProduct_14 rfl ?_
              refine caM_slot K (by decide) (Nat.le_of_ble_eq_true rfl) dX1_rowsProduct_15 ?_
              refine x_if_eqB K 75 dX1_rowsProduct_18 (by decide) (fun q => absurd q (by rw [h1]; decide)) (fun _ => ?_)
              refine x_aload_n K dX1_rowsProduct_21 rfl ?_
              refine x_iload_n K dX1_rowsProduct_22 rfl ?_
              refine caM_slot K (by decide) (Nat.le_of_ble_eq_true rfl) dX1_rowsProduct_23 ?_
              refine x_if_eqB K 75 dX1_rowsProduct_26 (by decide) (fun q => absurd q (by rw [h2]; decide)) (fun _ => ?_)
              refine x_aload_n K dX1_rowsProduct_29 rfl ?_
              refine x_iload_n K dX1_rowsProduct_30 rfl ?_
              refine caM_line K (by decide) (Nat.le_of_ble_eq_true rfl) dX1_rowsProduct_31 ?_
              refine x_if_eqB K 75 dX1_rowsProduct_34 (by decide) (fun q => absurd q (by rw [h3]; decide)) (fun _ => ?_)
              refine x_aload_n K dX1_rowsProduct_37 rfl ?_
              refine x_iload K dX1_rowsProduct_38 rfl ?_
              refine caM_line K (by decide) (Nat.le_of_ble_eq_true rfl) dX1_rowsProduct_40 ?_
              refine x_if_eqB K 75 dX1_rowsProduct_43 (by decide) (fun q => absurd q (by rw [h4]; decide)) (fun _ => ?_)
              refine x_iload K dX1_rowsProduct_46 rfl ?_
              refine x_aload_n K dX1_rowsProduct_48 rfl ?_
              refine x_iload_n K dX1_rowsProduct_49 rfl ?_
              refine x_iload_n K dX1_rowsProduct_50 rfl ?_
              refine x_iload K dX1_rowsProduct_51 rfl ?_
              refine caM_cell K (by decide) ht (hx) (by omega) (Nat.le_of_ble_eq_true rfl) dX1_rowsProduct_53 ?_
              refine x_aload_n K dX1_rowsProduct_56 rfl ?_
              refine x_iload_n K dX1_rowsProduct_57 rfl ?_
              refine x_iload K dX1_rowsProduct_58 rfl ?_
              refine x_iload K dX1_rowsProduct_60 rfl ?_
              refine caM_cell K (by decide) hq (hy) (by omega) (Nat.le_of_ble_eq_true rfl) dX1_rowsProduct_62 ?_
              refine x_imul K dX1_rowsProduct_65 ?_
              refine x_iadd K dX1_rowsProduct_66 ?_
              refine x_istore K [.ref (ad 0), .int (nI tn), .int (nI xn), .int (nI qn), .int (nI yn), .int (sv + ((((sl a tn (6 * xn + k))) * ((sl a qn (6 * yn + k)))))), .int (nI k)] dX1_rowsProduct_67 (by decide) (Nat.le_of_ble_eq_true rfl) rfl ?_
              refine x_iinc1 K [.ref (ad 0), .int (nI tn), .int (nI xn), .int (nI qn), .int (nI yn), .int (sv + ((((sl a tn (6 * xn + k))) * ((sl a qn (6 * yn + k)))))), .int (nI (k + 1))] dX1_rowsProduct_69 rfl (by decide) (Nat.le_of_ble_eq_true rfl) rfl ?_
              refine x_goto K 6 dX1_rowsProduct_72 (by decide) ?_
              exact ih (k + 1) _ (by omega) (by rw [hsv]; rfl)
          exact key 6 0 _ (by omega) rfl
        · skip
          refine x_iconst K (nI 0) dX1_rowsProduct_0 (by decide) ?_
          refine x_istore K [.ref (ad 0), .int t, .int x, .int q, .int y, .int (nI 0)] dX1_rowsProduct_1 (by decide) (Nat.le_of_ble_eq_true rfl) rfl ?_
          refine x_iconst K (nI 0) dX1_rowsProduct_3 (by decide) ?_
          refine x_istore K [.ref (ad 0), .int t, .int x, .int q, .int y, .int (nI 0), .int (nI 0)] dX1_rowsProduct_4 (by decide) (Nat.le_of_ble_eq_true rfl) rfl ?_
          refine x_iload K dX1_rowsProduct_6 rfl ?_
          refine x_bipush K (nI 6) dX1_rowsProduct_8 (by decide) ?_
          refine x_cmpN_ge K 75 dX1_rowsProduct_10 (by decide) (by omega) (by omega) (fun q => absurd q (by omega)) (fun _ => ?_)
          refine x_aload_n K dX1_rowsProduct_13 rfl ?_
          refine x_iload_n K dX1_rowsProduct_14 rfl ?_
          refine caM_slot K (by decide) (Nat.le_of_ble_eq_true rfl) dX1_rowsProduct_15 ?_
          refine x_if_eqB K 75 dX1_rowsProduct_18 (by decide) (fun q => absurd q (by rw [h1]; decide)) (fun _ => ?_)
          refine x_aload_n K dX1_rowsProduct_21 rfl ?_
          refine x_iload_n K dX1_rowsProduct_22 rfl ?_
          refine caM_slot K (by decide) (Nat.le_of_ble_eq_true rfl) dX1_rowsProduct_23 ?_
          refine x_if_eqB K 75 dX1_rowsProduct_26 (by decide) (fun q => absurd q (by rw [h2]; decide)) (fun _ => ?_)
          refine x_aload_n K dX1_rowsProduct_29 rfl ?_
          refine x_iload_n K dX1_rowsProduct_30 rfl ?_
          refine caM_line K (by decide) (Nat.le_of_ble_eq_true rfl) dX1_rowsProduct_31 ?_
          refine x_if_eqB K 75 dX1_rowsProduct_34 (by decide) (fun q => absurd q (by rw [h3]; decide)) (fun _ => ?_)
          refine x_aload_n K dX1_rowsProduct_37 rfl ?_
          refine x_iload K dX1_rowsProduct_38 rfl ?_
          refine caM_line K (by decide) (Nat.le_of_ble_eq_true rfl) dX1_rowsProduct_40 ?_
          refine x_if_eqB K 75 dX1_rowsProduct_43 (by decide) (fun _ => ?_) (fun q => absurd q (by rw [h4]; decide))
          refine x_iload K dX1_rowsProduct_75 rfl ?_
          rw [hQ0]
          exact x_iret K hr hlocks dX1_rowsProduct_77 () (rfl) (by unfold vRow; rw [show (okb 5 t && okb 6 x && okb 5 q && okb 6 y) = false by simp [*]]; rfl)
      · skip
        refine x_iconst K (nI 0) dX1_rowsProduct_0 (by decide) ?_
        refine x_istore K [.ref (ad 0), .int t, .int x, .int q, .int y, .int (nI 0)] dX1_rowsProduct_1 (by decide) (Nat.le_of_ble_eq_true rfl) rfl ?_
        refine x_iconst K (nI 0) dX1_rowsProduct_3 (by decide) ?_
        refine x_istore K [.ref (ad 0), .int t, .int x, .int q, .int y, .int (nI 0), .int (nI 0)] dX1_rowsProduct_4 (by decide) (Nat.le_of_ble_eq_true rfl) rfl ?_
        refine x_iload K dX1_rowsProduct_6 rfl ?_
        refine x_bipush K (nI 6) dX1_rowsProduct_8 (by decide) ?_
        refine x_cmpN_ge K 75 dX1_rowsProduct_10 (by decide) (by omega) (by omega) (fun q => absurd q (by omega)) (fun _ => ?_)
        refine x_aload_n K dX1_rowsProduct_13 rfl ?_
        refine x_iload_n K dX1_rowsProduct_14 rfl ?_
        refine caM_slot K (by decide) (Nat.le_of_ble_eq_true rfl) dX1_rowsProduct_15 ?_
        refine x_if_eqB K 75 dX1_rowsProduct_18 (by decide) (fun q => absurd q (by rw [h1]; decide)) (fun _ => ?_)
        refine x_aload_n K dX1_rowsProduct_21 rfl ?_
        refine x_iload_n K dX1_rowsProduct_22 rfl ?_
        refine caM_slot K (by decide) (Nat.le_of_ble_eq_true rfl) dX1_rowsProduct_23 ?_
        refine x_if_eqB K 75 dX1_rowsProduct_26 (by decide) (fun q => absurd q (by rw [h2]; decide)) (fun _ => ?_)
        refine x_aload_n K dX1_rowsProduct_29 rfl ?_
        refine x_iload_n K dX1_rowsProduct_30 rfl ?_
        refine caM_line K (by decide) (Nat.le_of_ble_eq_true rfl) dX1_rowsProduct_31 ?_
        refine x_if_eqB K 75 dX1_rowsProduct_34 (by decide) (fun _ => ?_) (fun q => absurd q (by rw [h3]; decide))
        refine x_iload K dX1_rowsProduct_75 rfl ?_
        rw [hQ0]
        exact x_iret K hr hlocks dX1_rowsProduct_77 () (rfl) (by unfold vRow; rw [show (okb 5 t && okb 6 x && okb 5 q && okb 6 y) = false by simp [*]]; rfl)
    · skip
      refine x_iconst K (nI 0) dX1_rowsProduct_0 (by decide) ?_
      refine x_istore K [.ref (ad 0), .int t, .int x, .int q, .int y, .int (nI 0)] dX1_rowsProduct_1 (by decide) (Nat.le_of_ble_eq_true rfl) rfl ?_
      refine x_iconst K (nI 0) dX1_rowsProduct_3 (by decide) ?_
      refine x_istore K [.ref (ad 0), .int t, .int x, .int q, .int y, .int (nI 0), .int (nI 0)] dX1_rowsProduct_4 (by decide) (Nat.le_of_ble_eq_true rfl) rfl ?_
      refine x_iload K dX1_rowsProduct_6 rfl ?_
      refine x_bipush K (nI 6) dX1_rowsProduct_8 (by decide) ?_
      refine x_cmpN_ge K 75 dX1_rowsProduct_10 (by decide) (by omega) (by omega) (fun q => absurd q (by omega)) (fun _ => ?_)
      refine x_aload_n K dX1_rowsProduct_13 rfl ?_
      refine x_iload_n K dX1_rowsProduct_14 rfl ?_
      refine caM_slot K (by decide) (Nat.le_of_ble_eq_true rfl) dX1_rowsProduct_15 ?_
      refine x_if_eqB K 75 dX1_rowsProduct_18 (by decide) (fun q => absurd q (by rw [h1]; decide)) (fun _ => ?_)
      refine x_aload_n K dX1_rowsProduct_21 rfl ?_
      refine x_iload_n K dX1_rowsProduct_22 rfl ?_
      refine caM_slot K (by decide) (Nat.le_of_ble_eq_true rfl) dX1_rowsProduct_23 ?_
      refine x_if_eqB K 75 dX1_rowsProduct_26 (by decide) (fun _ => ?_) (fun q => absurd q (by rw [h2]; decide))
      refine x_iload K dX1_rowsProduct_75 rfl ?_
      rw [hQ0]
      exact x_iret K hr hlocks dX1_rowsProduct_77 () (rfl) (by unfold vRow; rw [show (okb 5 t && okb 6 x && okb 5 q && okb 6 y) = false by simp [*]]; rfl)
  · skip
    refine x_iconst K (nI 0) dX1_rowsProduct_0 (by decide) ?_
    refine x_istore K [.ref (ad 0), .int t, .int x, .int q, .int y, .int (nI 0)] dX1_rowsProduct_1 (by decide) (Nat.le_of_ble_eq_true rfl) rfl ?_
    refine x_iconst K (nI 0) dX1_rowsProduct_3 (by decide) ?_
    refine x_istore K [.ref (ad 0), .int t, .int x, .int q, .int y, .int (nI 0), .int (nI 0)] dX1_rowsProduct_4 (by decide) (Nat.le_of_ble_eq_true rfl) rfl ?_
    refine x_iload K dX1_rowsProduct_6 rfl ?_
    refine x_bipush K (nI 6) dX1_rowsProduct_8 (by decide) ?_
    refine x_cmpN_ge K 75 dX1_rowsProduct_10 (by decide) (by omega) (by omega) (fun q => absurd q (by omega)) (fun _ => ?_)
    refine x_aload_n K dX1_rowsProduct_13 rfl ?_
    refine x_iload_n K dX1_rowsProduct_14 rfl ?_
    refine caM_slot K (by decide) (Nat.le_of_ble_eq_true rfl) dX1_rowsProduct_15 ?_
    refine x_if_eqB K 75 dX1_rowsProduct_18 (by decide) (fun _ => ?_) (fun q => absurd q (by rw [h1]; decide))
    refine x_iload K dX1_rowsProduct_75 rfl ?_
    rw [hQ0]
    exact x_iret K hr hlocks dX1_rowsProduct_77 () (rfl) (by unfold vRow; rw [show (okb 5 t && okb 6 x && okb 5 q && okb 6 y) = false by simp [*]]; rfl)
set_option maxHeartbeats 8000000 in
theorem ctM_sum (l : Launch) {D : va_G} {ad : Nat → Nat} {bd : Nat → ClassId} {a b : Nat → Int32} {t x y : Int32} : CtI l yX1_sum cX1_sum 6 (some .int) 1 D (tyM bd) [.ref (ad 0), .int t, .int x, .int y] (wM ad bd a b) (fun r (_ : Unit) => r = vSum a t x y) (fun _ => wM ad bd a b) := by
  refine x_enterI (own := RX1) (by decide) rfl (Nat.le_of_ble_eq_true rfl) (by simp [Value.category]) ?_
  intro p e s m args below meth c A K hr hlocks
  obtain ⟨Q0, hQ0⟩ : ∃ Q0 : State → Prop, Q0 = XQi below args s D (tyM bd) A (fun r (_ : Unit) => r = vSum a t x y) (fun _ => wM ad bd a b) := ⟨_, rfl⟩
  rw [← hQ0]
  refine x_aload_n K dX1_sum_0 rfl ?_
  refine x_iload_n K dX1_sum_1 rfl ?_
  refine caM_slot K (by decide) (Nat.le_of_ble_eq_true rfl) dX1_sum_2 ?_
  refine x_if_eqB K 30 dX1_sum_5 (by decide) (fun h1 => ?_) (fun h1 => ?_)
  · skip
    refine x_iconst K (nI 0) dX1_sum_30 (by decide) ?_
    rw [hQ0]
    exact x_iret K hr hlocks dX1_sum_31 () (rfl) (by unfold vSum; rw [show okSum t x y = false by unfold okSum; rw [h1]; rfl]; rfl)
  · skip
    refine x_iload_n K dX1_sum_8 rfl ?_
    refine x_if_lt K 30 dX1_sum_9 (by decide) (fun h2 => ?_) (fun h2 => ?_)
    · skip
      refine x_iconst K (nI 0) dX1_sum_30 (by decide) ?_
      rw [hQ0]
      exact x_iret K hr hlocks dX1_sum_31 () (rfl) (by unfold vSum; rw [show okSum t x y = false by unfold okSum; rw [decide_eq_false (fun z => z h2)]; simp]; rfl)
    · skip
      obtain ⟨xn, hx, rfl⟩ := nI_of h2
      refine x_iload_n K dX1_sum_12 rfl ?_
      refine x_iconst K (nI 2) dX1_sum_13 (by decide) ?_
      refine x_cmpN_gt K 30 dX1_sum_14 (by decide) (by omega) (by omega) (fun h3 => ?_) (fun h3 => ?_)
      · skip
        refine x_iconst K (nI 0) dX1_sum_30 (by decide) ?_
        rw [hQ0]
        exact x_iret K hr hlocks dX1_sum_31 () (rfl) (by unfold vSum; rw [show okSum t (nI xn) y = false by unfold okSum; rw [show decide (¬ (2 : Int32) < nI xn) = false from decide_eq_false (fun z => z ((nI_ltI (a := 2) (by omega) hx).mpr h3))]; simp]; rfl)
      · skip
        refine x_iload_n K dX1_sum_17 rfl ?_
        refine x_iconst K (nI 2) dX1_sum_18 (by decide) ?_
        refine x_cmpN_eq K 32 dX1_sum_19 (by decide) (by omega) (by omega) (fun h4 => ?_) (fun h4 => ?_)
        · skip
          obtain ⟨tn, ht, rfl⟩ := okb_of h1
          obtain rfl : xn = 2 := by omega
          have hok : okSum (nI tn) (nI 2) y = true := by unfold okSum; rw [h1]; rfl
          have hval : vSum a (nI tn) (nI 2) y = sm (fun k => sl a tn (6 * k + k)) 6 := by unfold vSum; rw [hok, if_pos rfl]; refine sm_congr (fun k _ => ?_); rw [if_neg (by decide), if_neg (by decide), cN_nI (by omega)]
          refine x_iconst K (nI 0) dX1_sum_32 (by decide) ?_
          refine x_istore K [.ref (ad 0), .int (nI tn), .int (nI 2), .int y, .int (nI 0)] dX1_sum_33 (by decide) (Nat.le_of_ble_eq_true rfl) rfl ?_
          refine x_iconst K (nI 0) dX1_sum_35 (by decide) ?_
          refine x_istore K [.ref (ad 0), .int (nI tn), .int (nI 2), .int y, .int (nI 0), .int (nI 0)] dX1_sum_36 (by decide) (Nat.le_of_ble_eq_true rfl) rfl ?_
          have key : ∀ (n : Nat) (k : Nat) (sv : Int32), k + n = 6 → sv = sm (fun k => sl a tn (6 * k + k)) k → XW p l e (rD 1) s m args below meth c 0 0 Q0 D A 6 (wM ad bd a b) 38 [.ref (ad 0), .int (nI tn), .int (nI 2), .int y, .int sv, .int (nI k)] [] := by
            intro n
            induction n with
            | zero =>
              intro k sv hk hsv
              obtain rfl : k = 6 := by omega
              refine x_iload K dX1_sum_38 rfl ?_
              refine x_bipush K (nI 6) dX1_sum_40 (by decide) ?_
              refine x_cmpN_ge K 96 dX1_sum_42 (by decide) (by omega) (by omega) (fun _ => ?_) (fun q => absurd q (by omega))
              refine x_iload K dX1_sum_96 rfl ?_
              rw [hQ0]
              exact x_iret K hr hlocks dX1_sum_98 () (rfl) (by rw [hval]; exact hsv)
            | succ n ih =>
              intro k sv hk hsv
              refine x_iload K dX1_sum_38 rfl ?_
              refine x_bipush K (nI 6) dX1_sum_40 (by decide) ?_
              refine x_cmpN_ge K 96 dX1_sum_42 (by decide) (by omega) (by omega) (fun q => absurd q (by omega)) (fun _ => ?_)
              refine x_iload K dX1_sum_45 rfl ?_
              refine x_iload_n K dX1_sum_47 rfl ?_
              refine x_if_ne K 62 dX1_sum_48 (by decide) (fun _ => ?_) (fun q => absurd q (by decide))
              refine x_iload_n K dX1_sum_62 rfl ?_
              refine x_iconst K (nI 1) dX1_sum_63 (by decide) ?_
              refine x_cmpN_ne K 78 dX1_sum_64 (by decide) (by omega) (by omega) (fun _ => ?_) (fun q => absurd q (by omega))
              refine x_aload_n K dX1_sum_78 rfl ?_
              refine x_iload_n K dX1_sum_79 rfl ?_
              refine x_iload K dX1_sum_80 rfl ?_
              refine x_iload K dX1_sum_82 rfl ?_
              refine caM_cell K (by decide) ht (by omega) (by omega) (Nat.le_of_ble_eq_true rfl) dX1_sum_84 ?_
              refine x_iadd K dX1_sum_87 ?_
              refine x_istore K [.ref (ad 0), .int (nI tn), .int (nI 2), .int y, .int (sv + ((sl a tn (6 * k + k)))), .int (nI k)] dX1_sum_88 (by decide) (Nat.le_of_ble_eq_true rfl) rfl ?_
              refine x_iinc1 K [.ref (ad 0), .int (nI tn), .int (nI 2), .int y, .int (sv + ((sl a tn (6 * k + k)))), .int (nI (k + 1))] dX1_sum_90 rfl (by decide) (Nat.le_of_ble_eq_true rfl) rfl ?_
              refine x_goto K 38 dX1_sum_93 (by decide) ?_
              exact ih (k + 1) _ (by omega) (by rw [hsv]; rfl)
          exact key 6 0 _ (by omega) rfl
        · skip
          refine x_aload_n K dX1_sum_22 rfl ?_
          refine x_iload_n K dX1_sum_23 rfl ?_
          refine caM_line K (by decide) (Nat.le_of_ble_eq_true rfl) dX1_sum_24 ?_
          refine x_if_neB K 32 dX1_sum_27 (by decide) (fun h5 => ?_) (fun h5 => ?_)
          · skip
            obtain ⟨tn, ht, rfl⟩ := okb_of h1
            obtain ⟨yn, hy, rfl⟩ := okb_of h5
            rcases (show xn = 0 ∨ xn = 1 by omega) with rfl | rfl
            · skip
              have hok : okSum (nI tn) (nI 0) ((nI yn)) = true := by unfold okSum; rw [h1, h5]; rfl
              have hval : vSum a (nI tn) (nI 0) ((nI yn)) = sm (fun k => sl a tn (6 * yn + k)) 6 := by unfold vSum; rw [hok, if_pos rfl]; refine sm_congr (fun k _ => ?_); rw [if_pos (by decide), cN_nI (by omega), cN_nI (by omega)]
              refine x_iconst K (nI 0) dX1_sum_32 (by decide) ?_
              refine x_istore K [.ref (ad 0), .int (nI tn), .int (nI 0), .int (nI yn), .int (nI 0)] dX1_sum_33 (by decide) (Nat.le_of_ble_eq_true rfl) rfl ?_
              refine x_iconst K (nI 0) dX1_sum_35 (by decide) ?_
              refine x_istore K [.ref (ad 0), .int (nI tn), .int (nI 0), .int (nI yn), .int (nI 0), .int (nI 0)] dX1_sum_36 (by decide) (Nat.le_of_ble_eq_true rfl) rfl ?_
              have key : ∀ (n : Nat) (k : Nat) (sv : Int32), k + n = 6 → sv = sm (fun k => sl a tn (6 * yn + k)) k → XW p l e (rD 1) s m args below meth c 0 0 Q0 D A 6 (wM ad bd a b) 38 [.ref (ad 0), .int (nI tn), .int (nI 0), .int (nI yn), .int sv, .int (nI k)] [] := by
                intro n
                induction n with
                | zero =>
                  intro k sv hk hsv
                  obtain rfl : k = 6 := by omega
                  refine x_iload K dX1_sum_38 rfl ?_
                  refine x_bipush K (nI 6) dX1_sum_40 (by decide) ?_
                  refine x_cmpN_ge K 96 dX1_sum_42 (by decide) (by omega) (by omega) (fun _ => ?_) (fun q => absurd q (by omega))
                  refine x_iload K dX1_sum_96 rfl ?_
                  rw [hQ0]
                  exact x_iret K hr hlocks dX1_sum_98 () (rfl) (by rw [hval]; exact hsv)
                | succ n ih =>
                  intro k sv hk hsv
                  refine x_iload K dX1_sum_38 rfl ?_
                  refine x_bipush K (nI 6) dX1_sum_40 (by decide) ?_
                  refine x_cmpN_ge K 96 dX1_sum_42 (by decide) (by omega) (by omega) (fun q => absurd q (by omega)) (fun _ => ?_)
                  refine x_iload K dX1_sum_45 rfl ?_
                  refine x_iload_n K dX1_sum_47 rfl ?_
                  refine x_if_ne K 62 dX1_sum_48 (by decide) (fun q => absurd q (fun z => z rfl)) (fun _ => ?_)
                  refine x_aload_n K dX1_sum_51 rfl ?_
                  refine x_iload_n K dX1_sum_52 rfl ?_
                  refine x_iload_n K dX1_sum_53 rfl ?_
                  refine x_iload K dX1_sum_54 rfl ?_
                  refine caM_cell K (by decide) ht (hy) (by omega) (Nat.le_of_ble_eq_true rfl) dX1_sum_56 ?_
                  refine x_goto K 87 dX1_sum_59 (by decide) ?_
                  refine x_iadd K dX1_sum_87 ?_
                  refine x_istore K [.ref (ad 0), .int (nI tn), .int (nI 0), .int (nI yn), .int (sv + ((sl a tn (6 * yn + k)))), .int (nI k)] dX1_sum_88 (by decide) (Nat.le_of_ble_eq_true rfl) rfl ?_
                  refine x_iinc1 K [.ref (ad 0), .int (nI tn), .int (nI 0), .int (nI yn), .int (sv + ((sl a tn (6 * yn + k)))), .int (nI (k + 1))] dX1_sum_90 rfl (by decide) (Nat.le_of_ble_eq_true rfl) rfl ?_
                  refine x_goto K 38 dX1_sum_93 (by decide) ?_
                  exact ih (k + 1) _ (by omega) (by rw [hsv]; rfl)
              exact key 6 0 _ (by omega) rfl
            · skip
              have hok : okSum (nI tn) (nI 1) ((nI yn)) = true := by unfold okSum; rw [h1, h5]; rfl
              have hval : vSum a (nI tn) (nI 1) ((nI yn)) = sm (fun k => sl a tn (6 * k + yn)) 6 := by unfold vSum; rw [hok, if_pos rfl]; refine sm_congr (fun k _ => ?_); rw [if_neg (by decide), if_pos (by decide), cN_nI (by omega), cN_nI (by omega)]
              refine x_iconst K (nI 0) dX1_sum_32 (by decide) ?_
              refine x_istore K [.ref (ad 0), .int (nI tn), .int (nI 1), .int (nI yn), .int (nI 0)] dX1_sum_33 (by decide) (Nat.le_of_ble_eq_true rfl) rfl ?_
              refine x_iconst K (nI 0) dX1_sum_35 (by decide) ?_
              refine x_istore K [.ref (ad 0), .int (nI tn), .int (nI 1), .int (nI yn), .int (nI 0), .int (nI 0)] dX1_sum_36 (by decide) (Nat.le_of_ble_eq_true rfl) rfl ?_
              have key : ∀ (n : Nat) (k : Nat) (sv : Int32), k + n = 6 → sv = sm (fun k => sl a tn (6 * k + yn)) k → XW p l e (rD 1) s m args below meth c 0 0 Q0 D A 6 (wM ad bd a b) 38 [.ref (ad 0), .int (nI tn), .int (nI 1), .int (nI yn), .int sv, .int (nI k)] [] := by
                intro n
                induction n with
                | zero =>
                  intro k sv hk hsv
                  obtain rfl : k = 6 := by omega
                  refine x_iload K dX1_sum_38 rfl ?_
                  refine x_bipush K (nI 6) dX1_sum_40 (by decide) ?_
                  refine x_cmpN_ge K 96 dX1_sum_42 (by decide) (by omega) (by omega) (fun _ => ?_) (fun q => absurd q (by omega))
                  refine x_iload K dX1_sum_96 rfl ?_
                  rw [hQ0]
                  exact x_iret K hr hlocks dX1_sum_98 () (rfl) (by rw [hval]; exact hsv)
                | succ n ih =>
                  intro k sv hk hsv
                  refine x_iload K dX1_sum_38 rfl ?_
                  refine x_bipush K (nI 6) dX1_sum_40 (by decide) ?_
                  refine x_cmpN_ge K 96 dX1_sum_42 (by decide) (by omega) (by omega) (fun q => absurd q (by omega)) (fun _ => ?_)
                  refine x_iload K dX1_sum_45 rfl ?_
                  refine x_iload_n K dX1_sum_47 rfl ?_
                  refine x_if_ne K 62 dX1_sum_48 (by decide) (fun _ => ?_) (fun q => absurd q (by decide))
                  refine x_iload_n K dX1_sum_62 rfl ?_
                  refine x_iconst K (nI 1) dX1_sum_63 (by decide) ?_
                  refine x_cmpN_ne K 78 dX1_sum_64 (by decide) (by omega) (by omega) (fun q => absurd q (by omega)) (fun _ => ?_)
                  refine x_aload_n K dX1_sum_67 rfl ?_
                  refine x_iload_n K dX1_sum_68 rfl ?_
                  refine x_iload K dX1_sum_69 rfl ?_
                  refine x_iload_n K dX1_sum_71 rfl ?_
                  refine caM_cell K (by decide) ht (by omega) (hy) (Nat.le_of_ble_eq_true rfl) dX1_sum_72 ?_
                  refine x_goto K 87 dX1_sum_75 (by decide) ?_
                  refine x_iadd K dX1_sum_87 ?_
                  refine x_istore K [.ref (ad 0), .int (nI tn), .int (nI 1), .int (nI yn), .int (sv + ((sl a tn (6 * k + yn)))), .int (nI k)] dX1_sum_88 (by decide) (Nat.le_of_ble_eq_true rfl) rfl ?_
                  refine x_iinc1 K [.ref (ad 0), .int (nI tn), .int (nI 1), .int (nI yn), .int (sv + ((sl a tn (6 * k + yn)))), .int (nI (k + 1))] dX1_sum_90 rfl (by decide) (Nat.le_of_ble_eq_true rfl) rfl ?_
                  refine x_goto K 38 dX1_sum_93 (by decide) ?_
                  exact ih (k + 1) _ (by omega) (by rw [hsv]; rfl)
              exact key 6 0 _ (by omega) rfl
          · skip
            refine x_iconst K (nI 0) dX1_sum_30 (by decide) ?_
            rw [hQ0]
            exact x_iret K hr hlocks dX1_sum_31 () (rfl) (by unfold vSum; rw [show okSum t (nI xn) y = false by unfold okSum; rw [h5, show decide (nI xn = (2 : Int32)) = false from decide_eq_false (fun z => h4 ((nI_eq (b := 2) hx (by omega)).mp z))]; simp]; rfl)
set_option maxHeartbeats 8000000 in
theorem ctM_same (l : Launch) {D : va_G} {ad : Nat → Nat} {bd : Nat → ClassId} {a b : Nat → Int32} {x y : Int32} : CtI l yX1_same cX1_same 5 (some .boolean) 1 D (tyM bd) [.ref (ad 0), .int x, .int y] (wM ad bd a b) (fun r (_ : Unit) => r = vSam a x y) (fun _ => wM ad bd a b) := by
  refine x_enterI (own := RX1) (by decide) rfl (Nat.le_of_ble_eq_true rfl) (by simp [Value.category]) ?_
  intro p e s m args below meth c A K hr hlocks
  obtain ⟨Q0, hQ0⟩ : ∃ Q0 : State → Prop, Q0 = XQi below args s D (tyM bd) A (fun r (_ : Unit) => r = vSam a x y) (fun _ => wM ad bd a b) := ⟨_, rfl⟩
  rw [← hQ0]
  refine x_aload_n K dX1_same_0 rfl ?_
  refine x_iload_n K dX1_same_1 rfl ?_
  refine caM_slot K (by decide) (Nat.le_of_ble_eq_true rfl) dX1_same_2 ?_
  refine x_if_eqB K 20 dX1_same_5 (by decide) (fun h1 => ?_) (fun h1 => ?_)
  · skip
    refine x_iconst K (nI 0) dX1_same_20 (by decide) ?_
    refine x_istore_n K [.ref (ad 0), .int x, .int y, .int (nI 0)] dX1_same_21 (by decide) (Nat.le_of_ble_eq_true rfl) rfl ?_
    refine x_iconst K (nI 0) dX1_same_22 (by decide) ?_
    refine x_istore K [.ref (ad 0), .int x, .int y, .int (nI 0), .int (nI 0)] dX1_same_23 (by decide) (Nat.le_of_ble_eq_true rfl) rfl ?_
    have fin0 : vSam a x y = 0 → ∀ k : Nat, k ≤ 36 → XW p l e (rD 1) s m args below meth c 0 0 Q0 D A 5 (wM ad bd a b) 25 [.ref (ad 0), .int x, .int y, .int (nI 0), .int (nI k)] [] := by
      intro hv k hk
      by_cases h9 : k = 36
      · skip
        refine x_iload K dX1_same_25 rfl ?_
        refine x_bipush K (nI 36) dX1_same_27 (by decide) ?_
        refine x_cmpN_ge K 75 dX1_same_29 (by decide) (by omega) (by omega) (fun _ => ?_) (fun q => absurd q (by omega))
        refine x_iload_n K dX1_same_75 rfl ?_
        rw [hQ0]
        exact x_zret K hr hlocks dX1_same_76 () (rfl) (hv.symm) (Or.inl rfl)
      · skip
        refine x_iload K dX1_same_25 rfl ?_
        refine x_bipush K (nI 36) dX1_same_27 (by decide) ?_
        refine x_cmpN_ge K 75 dX1_same_29 (by decide) (by omega) (by omega) (fun q => absurd q (by omega)) (fun _ => ?_)
        refine x_iload_n K dX1_same_32 rfl ?_
        refine x_if_eq K 75 dX1_same_33 (by decide) (fun _ => ?_) (fun q => absurd q (fun z => z rfl))
        refine x_iload_n K dX1_same_75 rfl ?_
        rw [hQ0]
        exact x_zret K hr hlocks dX1_same_76 () (rfl) (hv.symm) (Or.inl rfl)
    exact fin0 (by unfold vSam; rw [h1]; simp [bI]) 0 (by omega)
  · skip
    refine x_aload_n K dX1_same_8 rfl ?_
    refine x_iload_n K dX1_same_9 rfl ?_
    refine caM_slot K (by decide) (Nat.le_of_ble_eq_true rfl) dX1_same_10 ?_
    refine x_if_eqB K 20 dX1_same_13 (by decide) (fun h2 => ?_) (fun h2 => ?_)
    · skip
      refine x_iconst K (nI 0) dX1_same_20 (by decide) ?_
      refine x_istore_n K [.ref (ad 0), .int x, .int y, .int (nI 0)] dX1_same_21 (by decide) (Nat.le_of_ble_eq_true rfl) rfl ?_
      refine x_iconst K (nI 0) dX1_same_22 (by decide) ?_
      refine x_istore K [.ref (ad 0), .int x, .int y, .int (nI 0), .int (nI 0)] dX1_same_23 (by decide) (Nat.le_of_ble_eq_true rfl) rfl ?_
      have fin0 : vSam a x y = 0 → ∀ k : Nat, k ≤ 36 → XW p l e (rD 1) s m args below meth c 0 0 Q0 D A 5 (wM ad bd a b) 25 [.ref (ad 0), .int x, .int y, .int (nI 0), .int (nI k)] [] := by
        intro hv k hk
        by_cases h9 : k = 36
        · skip
          refine x_iload K dX1_same_25 rfl ?_
          refine x_bipush K (nI 36) dX1_same_27 (by decide) ?_
          refine x_cmpN_ge K 75 dX1_same_29 (by decide) (by omega) (by omega) (fun _ => ?_) (fun q => absurd q (by omega))
          refine x_iload_n K dX1_same_75 rfl ?_
          rw [hQ0]
          exact x_zret K hr hlocks dX1_same_76 () (rfl) (hv.symm) (Or.inl rfl)
        · skip
          refine x_iload K dX1_same_25 rfl ?_
          refine x_bipush K (nI 36) dX1_same_27 (by decide) ?_
          refine x_cmpN_ge K 75 dX1_same_29 (by decide) (by omega) (by omega) (fun q => absurd q (by omega)) (fun _ => ?_)
          refine x_iload_n K dX1_same_32 rfl ?_
          refine x_if_eq K 75 dX1_same_33 (by decide) (fun _ => ?_) (fun q => absurd q (fun z => z rfl))
          refine x_iload_n K dX1_same_75 rfl ?_
          rw [hQ0]
          exact x_zret K hr hlocks dX1_same_76 () (rfl) (hv.symm) (Or.inl rfl)
      exact fin0 (by unfold vSam; rw [h2]; simp [bI]) 0 (by omega)
    · skip
      obtain ⟨xn, hx, rfl⟩ := okb_of h1
      obtain ⟨yn, hy, rfl⟩ := okb_of h2
      have hval : vSam a (nI xn) (nI yn) = bI ((List.range 36).all (fun c => decide (sl a xn c = sl a yn c))) := by unfold vSam; rw [h1, h2, cN_nI (by omega), cN_nI (by omega)]; rfl
      have fin0 : vSam a (nI xn) (nI yn) = 0 → ∀ k : Nat, k ≤ 36 → XW p l e (rD 1) s m args below meth c 0 0 Q0 D A 5 (wM ad bd a b) 25 [.ref (ad 0), .int (nI xn), .int (nI yn), .int (nI 0), .int (nI k)] [] := by
        intro hv k hk
        by_cases h9 : k = 36
        · skip
          refine x_iload K dX1_same_25 rfl ?_
          refine x_bipush K (nI 36) dX1_same_27 (by decide) ?_
          refine x_cmpN_ge K 75 dX1_same_29 (by decide) (by omega) (by omega) (fun _ => ?_) (fun q => absurd q (by omega))
          refine x_iload_n K dX1_same_75 rfl ?_
          rw [hQ0]
          exact x_zret K hr hlocks dX1_same_76 () (rfl) (hv.symm) (Or.inl rfl)
        · skip
          refine x_iload K dX1_same_25 rfl ?_
          refine x_bipush K (nI 36) dX1_same_27 (by decide) ?_
          refine x_cmpN_ge K 75 dX1_same_29 (by decide) (by omega) (by omega) (fun q => absurd q (by omega)) (fun _ => ?_)
          refine x_iload_n K dX1_same_32 rfl ?_
          refine x_if_eq K 75 dX1_same_33 (by decide) (fun _ => ?_) (fun q => absurd q (fun z => z rfl))
          refine x_iload_n K dX1_same_75 rfl ?_
          rw [hQ0]
          exact x_zret K hr hlocks dX1_same_76 () (rfl) (hv.symm) (Or.inl rfl)
      refine x_iconst K (nI 1) dX1_same_16 (by decide) ?_
      refine x_goto K 21 dX1_same_17 (by decide) ?_
      refine x_istore_n K [.ref (ad 0), .int (nI xn), .int (nI yn), .int (nI 1)] dX1_same_21 (by decide) (Nat.le_of_ble_eq_true rfl) rfl ?_
      refine x_iconst K (nI 0) dX1_same_22 (by decide) ?_
      refine x_istore K [.ref (ad 0), .int (nI xn), .int (nI yn), .int (nI 1), .int (nI 0)] dX1_same_23 (by decide) (Nat.le_of_ble_eq_true rfl) rfl ?_
      have key : ∀ (n : Nat) (k : Nat), k + n = 36 → (∀ d, d < k → sl a xn d = sl a yn d) → XW p l e (rD 1) s m args below meth c 0 0 Q0 D A 5 (wM ad bd a b) 25 [.ref (ad 0), .int (nI xn), .int (nI yn), .int (nI 1), .int (nI k)] [] := by
        intro n
        induction n with
        | zero =>
          intro k hk hd
          refine x_iload K dX1_same_25 rfl ?_
          refine x_bipush K (nI 36) dX1_same_27 (by decide) ?_
          refine x_cmpN_ge K 75 dX1_same_29 (by decide) (by omega) (by omega) (fun _ => ?_) (fun q => absurd q (by omega))
          refine x_iload_n K dX1_same_75 rfl ?_
          rw [hQ0]
          exact x_zret K hr hlocks dX1_same_76 () (rfl) (by rw [hval, all36_t (fun c hc => decide_eq_true (hd c (by omega)))]; rfl) (Or.inr rfl)
        | succ n ih =>
          intro k hk hd
          refine x_iload K dX1_same_25 rfl ?_
          refine x_bipush K (nI 36) dX1_same_27 (by decide) ?_
          refine x_cmpN_ge K 75 dX1_same_29 (by decide) (by omega) (by omega) (fun q => absurd q (by omega)) (fun _ => ?_)
          refine x_iload_n K dX1_same_32 rfl ?_
          refine x_if_eq K 75 dX1_same_33 (by decide) (fun q => absurd q (by decide)) (fun _ => ?_)
          refine x_aload_n K dX1_same_36 rfl ?_
          refine gtA K dX1_same_37 ?_
          refine x_bipush K (nI 36) dX1_same_40 (by decide) ?_
          refine x_iload_n K dX1_same_42 rfl ?_
          refine x_imulN K dX1_same_43 ?_
          refine x_iload K dX1_same_44 rfl ?_
          refine x_iaddN K dX1_same_46 ?_
          refine ldA K (36 * xn + k) (by omega) (by omega) (x := (sl a xn k)) (rfl) dX1_same_47 ?_
          refine x_aload_n K dX1_same_48 rfl ?_
          refine gtA K dX1_same_49 ?_
          refine x_bipush K (nI 36) dX1_same_52 (by decide) ?_
          refine x_iload_n K dX1_same_54 rfl ?_
          refine x_imulN K dX1_same_55 ?_
          refine x_iload K dX1_same_56 rfl ?_
          refine x_iaddN K dX1_same_58 ?_
          refine ldA K (36 * yn + k) (by omega) (by omega) (x := (sl a yn k)) (rfl) dX1_same_59 ?_
          refine x_cmp_ne K 67 dX1_same_60 (by decide) (fun hv => ?_) (fun hv => ?_)
          · skip
            refine x_iconst K (nI 0) dX1_same_67 (by decide) ?_
            refine x_istore_n K [.ref (ad 0), .int (nI xn), .int (nI yn), .int (nI 0), .int (nI k)] dX1_same_68 (by decide) (Nat.le_of_ble_eq_true rfl) rfl ?_
            refine x_iinc1 K [.ref (ad 0), .int (nI xn), .int (nI yn), .int (nI 0), .int (nI (k + 1))] dX1_same_69 rfl (by decide) (Nat.le_of_ble_eq_true rfl) rfl ?_
            refine x_goto K 25 dX1_same_72 (by decide) ?_
            exact fin0 (by rw [hval, all36_f (fun z => hv (of_decide_eq_true (z k (by omega))))]; rfl) (k + 1) (by omega)
          · skip
            refine x_iconst K (nI 1) dX1_same_63 (by decide) ?_
            refine x_goto K 68 dX1_same_64 (by decide) ?_
            refine x_istore_n K [.ref (ad 0), .int (nI xn), .int (nI yn), .int (nI 1), .int (nI k)] dX1_same_68 (by decide) (Nat.le_of_ble_eq_true rfl) rfl ?_
            refine x_iinc1 K [.ref (ad 0), .int (nI xn), .int (nI yn), .int (nI 1), .int (nI (k + 1))] dX1_same_69 rfl (by decide) (Nat.le_of_ble_eq_true rfl) rfl ?_
            refine x_goto K 25 dX1_same_72 (by decide) ?_
            refine ih (k + 1) (by omega) (fun d h => ?_)
            by_cases hdk : d = k
            · rw [hdk]; exact hv
            · exact hd d (by omega)
      exact key 36 0 (by omega) (fun d h => absurd h (by omega))
set_option maxHeartbeats 8000000 in
theorem ctM_symmetric (l : Launch) {D : va_G} {ad : Nat → Nat} {bd : Nat → ClassId} {a b : Nat → Int32} {t : Int32} : CtI l yX1_symmetric cX1_symmetric 4 (some .boolean) 1 D (tyM bd) [.ref (ad 0), .int t] (wM ad bd a b) (fun r (_ : Unit) => r = vSym a t) (fun _ => wM ad bd a b) := by
  refine x_enterI (own := RX1) (by decide) rfl (Nat.le_of_ble_eq_true rfl) (by simp [Value.category]) ?_
  intro p e s m args below meth c A K hr hlocks
  obtain ⟨Q0, hQ0⟩ : ∃ Q0 : State → Prop, Q0 = XQi below args s D (tyM bd) A (fun r (_ : Unit) => r = vSym a t) (fun _ => wM ad bd a b) := ⟨_, rfl⟩
  rw [← hQ0]
  refine x_aload_n K dX1_symmetric_0 rfl ?_
  refine x_iload_n K dX1_symmetric_1 rfl ?_
  refine caM_slot K (by decide) (Nat.le_of_ble_eq_true rfl) dX1_symmetric_2 ?_
  rcases Bool.eq_false_or_eq_true (okb 5 t) with h1 | h1
  · skip
    refine x_top (y := (nI 1)) (by rw [h1]; rfl) ?_
    obtain ⟨tn, ht, rfl⟩ := okb_of h1
    have hval : vSym a (nI tn) = bI ((List.range 36).all (fun c => decide (sl a tn (6 * (c / 6) + c % 6) = sl a tn (6 * (c % 6) + c / 6)))) := by unfold vSym; rw [h1, cN_nI (by omega)]; rfl
    have fin0 : vSym a (nI tn) = 0 → ∀ k : Nat, k ≤ 36 → XW p l e (rD 1) s m args below meth c 0 0 Q0 D A 4 (wM ad bd a b) 8 [.ref (ad 0), .int (nI tn), .int (nI 0), .int (nI k)] [] := by
      intro hv k hk
      by_cases h9 : k = 36
      · skip
        refine x_iload_n K dX1_symmetric_8 rfl ?_
        refine x_bipush K (nI 36) dX1_symmetric_9 (by decide) ?_
        refine x_cmpN_ge K 59 dX1_symmetric_11 (by decide) (by omega) (by omega) (fun _ => ?_) (fun q => absurd q (by omega))
        refine x_iload_n K dX1_symmetric_59 rfl ?_
        rw [hQ0]
        exact x_zret K hr hlocks dX1_symmetric_60 () (rfl) (hv.symm) (Or.inl rfl)
      · skip
        refine x_iload_n K dX1_symmetric_8 rfl ?_
        refine x_bipush K (nI 36) dX1_symmetric_9 (by decide) ?_
        refine x_cmpN_ge K 59 dX1_symmetric_11 (by decide) (by omega) (by omega) (fun q => absurd q (by omega)) (fun _ => ?_)
        refine x_iload_n K dX1_symmetric_14 rfl ?_
        refine x_if_eq K 59 dX1_symmetric_15 (by decide) (fun _ => ?_) (fun q => absurd q (fun z => z rfl))
        refine x_iload_n K dX1_symmetric_59 rfl ?_
        rw [hQ0]
        exact x_zret K hr hlocks dX1_symmetric_60 () (rfl) (hv.symm) (Or.inl rfl)
    refine x_istore_n K [.ref (ad 0), .int (nI tn), .int (nI 1)] dX1_symmetric_5 (by decide) (Nat.le_of_ble_eq_true rfl) rfl ?_
    refine x_iconst K (nI 0) dX1_symmetric_6 (by decide) ?_
    refine x_istore_n K [.ref (ad 0), .int (nI tn), .int (nI 1), .int (nI 0)] dX1_symmetric_7 (by decide) (Nat.le_of_ble_eq_true rfl) rfl ?_
    have key : ∀ (n : Nat) (k : Nat), k + n = 36 → (∀ d, d < k → sl a tn (6 * (d / 6) + d % 6) = sl a tn (6 * (d % 6) + d / 6)) → XW p l e (rD 1) s m args below meth c 0 0 Q0 D A 4 (wM ad bd a b) 8 [.ref (ad 0), .int (nI tn), .int (nI 1), .int (nI k)] [] := by
      intro n
      induction n with
      | zero =>
        intro k hk hd
        refine x_iload_n K dX1_symmetric_8 rfl ?_
        refine x_bipush K (nI 36) dX1_symmetric_9 (by decide) ?_
        refine x_cmpN_ge K 59 dX1_symmetric_11 (by decide) (by omega) (by omega) (fun _ => ?_) (fun q => absurd q (by omega))
        refine x_iload_n K dX1_symmetric_59 rfl ?_
        rw [hQ0]
        exact x_zret K hr hlocks dX1_symmetric_60 () (rfl) (by rw [hval, all36_t (fun c hc => decide_eq_true (hd c (by omega)))]; rfl) (Or.inr rfl)
      | succ n ih =>
        intro k hk hd
        refine x_iload_n K dX1_symmetric_8 rfl ?_
        refine x_bipush K (nI 36) dX1_symmetric_9 (by decide) ?_
        refine x_cmpN_ge K 59 dX1_symmetric_11 (by decide) (by omega) (by omega) (fun q => absurd q (by omega)) (fun _ => ?_)
        refine x_iload_n K dX1_symmetric_14 rfl ?_
        refine x_if_eq K 59 dX1_symmetric_15 (by decide) (fun q => absurd q (by decide)) (fun _ => ?_)
        refine x_aload_n K dX1_symmetric_18 rfl ?_
        refine x_iload_n K dX1_symmetric_19 rfl ?_
        refine x_iload_n K dX1_symmetric_20 rfl ?_
        refine x_bipush K (nI 6) dX1_symmetric_21 (by decide) ?_
        refine x_idivN K dX1_symmetric_23 (by omega) (by omega) (by omega) ?_
        refine x_iload_n K dX1_symmetric_24 rfl ?_
        refine x_bipush K (nI 6) dX1_symmetric_25 (by decide) ?_
        refine x_iremN K dX1_symmetric_27 (by omega) (by omega) (by omega) ?_
        refine caM_cell K (by decide) ht (by omega) (by omega) (Nat.le_of_ble_eq_true rfl) dX1_symmetric_28 ?_
        refine x_aload_n K dX1_symmetric_31 rfl ?_
        refine x_iload_n K dX1_symmetric_32 rfl ?_
        refine x_iload_n K dX1_symmetric_33 rfl ?_
        refine x_bipush K (nI 6) dX1_symmetric_34 (by decide) ?_
        refine x_iremN K dX1_symmetric_36 (by omega) (by omega) (by omega) ?_
        refine x_iload_n K dX1_symmetric_37 rfl ?_
        refine x_bipush K (nI 6) dX1_symmetric_38 (by decide) ?_
        refine x_idivN K dX1_symmetric_40 (by omega) (by omega) (by omega) ?_
        refine caM_cell K (by decide) ht (by omega) (by omega) (Nat.le_of_ble_eq_true rfl) dX1_symmetric_41 ?_
        refine x_cmp_ne K 51 dX1_symmetric_44 (by decide) (fun hv => ?_) (fun hv => ?_)
        · skip
          refine x_iconst K (nI 0) dX1_symmetric_51 (by decide) ?_
          refine x_istore_n K [.ref (ad 0), .int (nI tn), .int (nI 0), .int (nI k)] dX1_symmetric_52 (by decide) (Nat.le_of_ble_eq_true rfl) rfl ?_
          refine x_iinc1 K [.ref (ad 0), .int (nI tn), .int (nI 0), .int (nI (k + 1))] dX1_symmetric_53 rfl (by decide) (Nat.le_of_ble_eq_true rfl) rfl ?_
          refine x_goto K 8 dX1_symmetric_56 (by decide) ?_
          exact fin0 (by rw [hval, all36_f (fun z => hv (of_decide_eq_true (z k (by omega))))]; rfl) (k + 1) (by omega)
        · skip
          refine x_iconst K (nI 1) dX1_symmetric_47 (by decide) ?_
          refine x_goto K 52 dX1_symmetric_48 (by decide) ?_
          refine x_istore_n K [.ref (ad 0), .int (nI tn), .int (nI 1), .int (nI k)] dX1_symmetric_52 (by decide) (Nat.le_of_ble_eq_true rfl) rfl ?_
          refine x_iinc1 K [.ref (ad 0), .int (nI tn), .int (nI 1), .int (nI (k + 1))] dX1_symmetric_53 rfl (by decide) (Nat.le_of_ble_eq_true rfl) rfl ?_
          refine x_goto K 8 dX1_symmetric_56 (by decide) ?_
          refine ih (k + 1) (by omega) (fun d h => ?_)
          by_cases hdk : d = k
          · rw [hdk]; exact hv
          · exact hd d (by omega)
    exact key 36 0 (by omega) (fun d h => absurd h (by omega))
  · skip
    refine x_top (y := (nI 0)) (by rw [h1]; rfl) ?_
    refine x_istore_n K [.ref (ad 0), .int t, .int (nI 0)] dX1_symmetric_5 (by decide) (Nat.le_of_ble_eq_true rfl) rfl ?_
    refine x_iconst K (nI 0) dX1_symmetric_6 (by decide) ?_
    refine x_istore_n K [.ref (ad 0), .int t, .int (nI 0), .int (nI 0)] dX1_symmetric_7 (by decide) (Nat.le_of_ble_eq_true rfl) rfl ?_
    have fin0 : vSym a t = 0 → ∀ k : Nat, k ≤ 36 → XW p l e (rD 1) s m args below meth c 0 0 Q0 D A 4 (wM ad bd a b) 8 [.ref (ad 0), .int t, .int (nI 0), .int (nI k)] [] := by
      intro hv k hk
      by_cases h9 : k = 36
      · skip
        refine x_iload_n K dX1_symmetric_8 rfl ?_
        refine x_bipush K (nI 36) dX1_symmetric_9 (by decide) ?_
        refine x_cmpN_ge K 59 dX1_symmetric_11 (by decide) (by omega) (by omega) (fun _ => ?_) (fun q => absurd q (by omega))
        refine x_iload_n K dX1_symmetric_59 rfl ?_
        rw [hQ0]
        exact x_zret K hr hlocks dX1_symmetric_60 () (rfl) (hv.symm) (Or.inl rfl)
      · skip
        refine x_iload_n K dX1_symmetric_8 rfl ?_
        refine x_bipush K (nI 36) dX1_symmetric_9 (by decide) ?_
        refine x_cmpN_ge K 59 dX1_symmetric_11 (by decide) (by omega) (by omega) (fun q => absurd q (by omega)) (fun _ => ?_)
        refine x_iload_n K dX1_symmetric_14 rfl ?_
        refine x_if_eq K 59 dX1_symmetric_15 (by decide) (fun _ => ?_) (fun q => absurd q (fun z => z rfl))
        refine x_iload_n K dX1_symmetric_59 rfl ?_
        rw [hQ0]
        exact x_zret K hr hlocks dX1_symmetric_60 () (rfl) (hv.symm) (Or.inl rfl)
    exact fin0 (by unfold vSym; rw [h1]; rfl) 0 (by omega)
end
section
set_option maxRecDepth 100000
/-! the two constructors -/
set_option maxHeartbeats 8000000 in
theorem ctX_init (l : Launch) (D : va_G) (h0 sz : Nat) : Met l yX0_init (ws_ yX0_init cX0_init 1 none) ({ frames := 1, cells := 7, slots := 480, locals := 12 }) (XP D [] [(h0, .inr (0, [.null, .null, .null, .null, .null, .null, .int 0, .null]))] sz [.ref h0]) (va_Qv (fun (u : (Nat → Nat) × (Nat → ClassId)) => u.1 0 = h0) (fun u t => va_P D vwCl (wX u.1 u.2 (fun _ => 0) (fun _ => 0) (fun _ => 0) (fun _ => 0) (fun _ => 0) (fun _ => 0) 0 (fun _ => 0)) t.heap ∧ va_K D vwCl (tyX u.2) t ∧ va_D (va_A [(h0, .inr (0, [.null, .null, .null, .null, .null, .null, .int 0, .null]))] sz) (wX u.1 u.2 (fun _ => 0) (fun _ => 0) (fun _ => 0) (fun _ => 0) (fun _ => 0) (fun _ => 0) 0 (fun _ => 0))) (va_A [(h0, .inr (0, [.null, .null, .null, .null, .null, .null, .int 0, .null]))] sz)) 7 480 (va_A [(h0, .inr (0, [.null, .null, .null, .null, .null, .null, .int 0, .null]))] sz) := by
  refine Met.ofW (cc := cX0_init) (maxL := 1) (ret := none) (by decide) rfl ?_
  intro p e s m args below meth c s₁ B hml hv
  obtain ⟨rfl, hsz, hP, hK, hD0⟩ := hv
  have hx := B.exec
  have hb := B.bytes
  have hr := B.returns
  have hts := atoms_spec (ws := ws_ yX0_init cX0_init 1 none) B.pre
  have hts : ∀ w ∈ lw_all, w.before _ s = true := fun w h => hts w (List.mem_cons_of_mem _ h)
  have hown : s.vm.findClass RX0 = some m.cls := findClass_of_methodNamed B.named
  have hlocks := B.notSynchronized
  have hin : meth.name = "<init>" := (name_of_methodNamed B.named B.method).1
  subst hsz
  have hD := hD0.self (sz := s.heap.size)
  generalize hAe : va_A [(h0, .inr (0, [.null, .null, .null, .null, .null, .null, .int 0, .null]))] s.heap.size = A at hD ⊢
  have hA : ∀ q : Nat, s.heap.size ≤ q → A q := fun q h => by rw [← hAe]; exact Or.inr h
  have hS : va_S A s.heap s.heap [] := va_S.rf
  have hP : va_P D vwCl [(h0, .inr (0, [.null, .null, .null, .null, .null, .null, .int 0, .null]))] s.heap := hP
  have hl := lv_entry ([.ref h0]) (n := 1) (Nat.le_of_ble_eq_true rfl)
  rw [lg_entry_eq]
  generalize (lg_sl ([.ref h0]) ++ List.replicate (1 - (lg_sl ([.ref h0])).length) Slot.unset).toArray = ls at hl ⊢
  have hl : lv_has ls 1 [(0, .ref h0)] := hl
  refine lv_aload_n hx hb dX0_init_0 rfl (lv_at hl 0 rfl) ?_
  refine W.objInit hx hb hown (hts _ q25) (hts _ q26) (hts _ q27) rfl (by rw [hml]; exact hl.1) rfl dX0_init_1 (Nat.le_of_ble_eq_true rfl) (Nat.le_of_ble_eq_true rfl) ?_
  refine W.eq (g2 := F0 m 4 ls []) rfl ?_
  refine lv_aload_n hx hb dX0_init_4 rfl (lv_at hl 0 rfl) ?_
  refine lv_bipush (v := 35) hx hb dX0_init_5 (by decide) ?_
  refine va_newa (atype := .byte) (ty := .byte) (a0 := (35, .inl (fun _ => 0))) hx hb (hts _ q53) rfl hK hP hD hS hA (fun cA => rfl) (by decide) (by decide) (by decide) (Nat.le_of_ble_eq_true rfl) (Nat.le_of_ble_eq_true rfl) dX0_init_7 (fun q1 b1 H hK hP hD hS => ?_)
  refine W.widen (k := 1) (n := 35) (by omega) (by omega) ?_
  have hP : va_P D vwCl [(h0, .inr (0, [.null, .null, .null, .null, .null, .null, .int 0, .null])), (q1, .inl (b1, 35, .inl (fun _ => 0)))] H := hP
  have hD : va_D A [(h0, .inr (0, [.null, .null, .null, .null, .null, .null, .int 0, .null])), (q1, .inl (b1, 35, .inl (fun _ => 0)))] := hD
  refine va_putF (D := D) (ci := 0) (v := .ref q1) (ty := .array .byte) (C := RX0) (T := TX0) (N := 8) hx hb hts in_X0 tyX0 tyX0_ok nmX0 hown hK hP hD hS 0 rfl rfl 0 (by decide) (hts _ q28) (fun _ h9 => h9) rfl hin rfl (by decide +kernel) rfl rfl (Nat.le_of_ble_eq_true rfl) dX0_init_9 (fun H locs hP hD hS => ?_)
  have hP : va_P D vwCl [(h0, .inr (0, [.ref q1, .null, .null, .null, .null, .null, .int 0, .null])), (q1, .inl (b1, 35, .inl (fun _ => 0)))] H := hP
  have hD : va_D A [(h0, .inr (0, [.ref q1, .null, .null, .null, .null, .null, .int 0, .null])), (q1, .inl (b1, 35, .inl (fun _ => 0)))] := hD
  refine lv_aload_n hx hb dX0_init_12 rfl (lv_at hl 0 rfl) ?_
  refine lv_sipush (v := 180) hx hb dX0_init_13 (by decide) ?_
  refine va_newa (atype := .byte) (ty := .byte) (a0 := (180, .inl (fun _ => 0))) hx hb (hts _ q53) rfl hK hP hD hS hA (fun cA => rfl) (by decide) (by decide) (by decide) (Nat.le_of_ble_eq_true rfl) (Nat.le_of_ble_eq_true rfl) dX0_init_16 (fun q2 b2 H hK hP hD hS => ?_)
  refine W.widen (k := 2) (n := 215) (by omega) (by omega) ?_
  have hP : va_P D vwCl [(h0, .inr (0, [.ref q1, .null, .null, .null, .null, .null, .int 0, .null])), (q1, .inl (b1, 35, .inl (fun _ => 0))), (q2, .inl (b2, 180, .inl (fun _ => 0)))] H := hP
  have hD : va_D A [(h0, .inr (0, [.ref q1, .null, .null, .null, .null, .null, .int 0, .null])), (q1, .inl (b1, 35, .inl (fun _ => 0))), (q2, .inl (b2, 180, .inl (fun _ => 0)))] := hD
  refine va_putF (D := D) (ci := 0) (v := .ref q2) (ty := .array .byte) (C := RX0) (T := TX0) (N := 8) hx hb hts in_X0 tyX0 tyX0_ok nmX0 hown hK hP hD hS 0 rfl rfl 1 (by decide) (hts _ q29) (fun _ h9 => h9) rfl hin rfl (by decide +kernel) rfl rfl (Nat.le_of_ble_eq_true rfl) dX0_init_18 (fun H locs hP hD hS => ?_)
  have hP : va_P D vwCl [(h0, .inr (0, [.ref q1, .ref q2, .null, .null, .null, .null, .int 0, .null])), (q1, .inl (b1, 35, .inl (fun _ => 0))), (q2, .inl (b2, 180, .inl (fun _ => 0)))] H := hP
  have hD : va_D A [(h0, .inr (0, [.ref q1, .ref q2, .null, .null, .null, .null, .int 0, .null])), (q1, .inl (b1, 35, .inl (fun _ => 0))), (q2, .inl (b2, 180, .inl (fun _ => 0)))] := hD
  refine lv_aload_n hx hb dX0_init_21 rfl (lv_at hl 0 rfl) ?_
  refine lv_sipush (v := 180) hx hb dX0_init_22 (by decide) ?_
  refine va_newa (atype := .int) (ty := .int) (a0 := (180, .inl (fun _ => 0))) hx hb (hts _ q54) rfl hK hP hD hS hA (fun cA => rfl) (by decide) (by decide) (by decide) (Nat.le_of_ble_eq_true rfl) (Nat.le_of_ble_eq_true rfl) dX0_init_25 (fun q3 b3 H hK hP hD hS => ?_)
  refine W.widen (k := 3) (n := 395) (by omega) (by omega) ?_
  have hP : va_P D vwCl [(h0, .inr (0, [.ref q1, .ref q2, .null, .null, .null, .null, .int 0, .null])), (q1, .inl (b1, 35, .inl (fun _ => 0))), (q2, .inl (b2, 180, .inl (fun _ => 0))), (q3, .inl (b3, 180, .inl (fun _ => 0)))] H := hP
  have hD : va_D A [(h0, .inr (0, [.ref q1, .ref q2, .null, .null, .null, .null, .int 0, .null])), (q1, .inl (b1, 35, .inl (fun _ => 0))), (q2, .inl (b2, 180, .inl (fun _ => 0))), (q3, .inl (b3, 180, .inl (fun _ => 0)))] := hD
  refine va_putF (D := D) (ci := 0) (v := .ref q3) (ty := .array .int) (C := RX0) (T := TX0) (N := 8) hx hb hts in_X0 tyX0 tyX0_ok nmX0 hown hK hP hD hS 0 rfl rfl 2 (by decide) (hts _ q30) (fun _ h9 => h9) rfl hin rfl (by decide +kernel) rfl rfl (Nat.le_of_ble_eq_true rfl) dX0_init_27 (fun H locs hP hD hS => ?_)
  have hP : va_P D vwCl [(h0, .inr (0, [.ref q1, .ref q2, .ref q3, .null, .null, .null, .int 0, .null])), (q1, .inl (b1, 35, .inl (fun _ => 0))), (q2, .inl (b2, 180, .inl (fun _ => 0))), (q3, .inl (b3, 180, .inl (fun _ => 0)))] H := hP
  have hD : va_D A [(h0, .inr (0, [.ref q1, .ref q2, .ref q3, .null, .null, .null, .int 0, .null])), (q1, .inl (b1, 35, .inl (fun _ => 0))), (q2, .inl (b2, 180, .inl (fun _ => 0))), (q3, .inl (b3, 180, .inl (fun _ => 0)))] := hD
  refine lv_aload_n hx hb dX0_init_30 rfl (lv_at hl 0 rfl) ?_
  refine lv_bipush (v := 7) hx hb dX0_init_31 (by decide) ?_
  refine va_newa (atype := .byte) (ty := .byte) (a0 := (7, .inl (fun _ => 0))) hx hb (hts _ q53) rfl hK hP hD hS hA (fun cA => rfl) (by decide) (by decide) (by decide) (Nat.le_of_ble_eq_true rfl) (Nat.le_of_ble_eq_true rfl) dX0_init_33 (fun q4 b4 H hK hP hD hS => ?_)
  refine W.widen (k := 4) (n := 402) (by omega) (by omega) ?_
  have hP : va_P D vwCl [(h0, .inr (0, [.ref q1, .ref q2, .ref q3, .null, .null, .null, .int 0, .null])), (q1, .inl (b1, 35, .inl (fun _ => 0))), (q2, .inl (b2, 180, .inl (fun _ => 0))), (q3, .inl (b3, 180, .inl (fun _ => 0))), (q4, .inl (b4, 7, .inl (fun _ => 0)))] H := hP
  have hD : va_D A [(h0, .inr (0, [.ref q1, .ref q2, .ref q3, .null, .null, .null, .int 0, .null])), (q1, .inl (b1, 35, .inl (fun _ => 0))), (q2, .inl (b2, 180, .inl (fun _ => 0))), (q3, .inl (b3, 180, .inl (fun _ => 0))), (q4, .inl (b4, 7, .inl (fun _ => 0)))] := hD
  refine va_putF (D := D) (ci := 0) (v := .ref q4) (ty := .array .byte) (C := RX0) (T := TX0) (N := 8) hx hb hts in_X0 tyX0 tyX0_ok nmX0 hown hK hP hD hS 0 rfl rfl 3 (by decide) (hts _ q31) (fun _ h9 => h9) rfl hin rfl (by decide +kernel) rfl rfl (Nat.le_of_ble_eq_true rfl) dX0_init_35 (fun H locs hP hD hS => ?_)
  have hP : va_P D vwCl [(h0, .inr (0, [.ref q1, .ref q2, .ref q3, .ref q4, .null, .null, .int 0, .null])), (q1, .inl (b1, 35, .inl (fun _ => 0))), (q2, .inl (b2, 180, .inl (fun _ => 0))), (q3, .inl (b3, 180, .inl (fun _ => 0))), (q4, .inl (b4, 7, .inl (fun _ => 0)))] H := hP
  have hD : va_D A [(h0, .inr (0, [.ref q1, .ref q2, .ref q3, .ref q4, .null, .null, .int 0, .null])), (q1, .inl (b1, 35, .inl (fun _ => 0))), (q2, .inl (b2, 180, .inl (fun _ => 0))), (q3, .inl (b3, 180, .inl (fun _ => 0))), (q4, .inl (b4, 7, .inl (fun _ => 0)))] := hD
  refine lv_aload_n hx hb dX0_init_38 rfl (lv_at hl 0 rfl) ?_
  refine lv_bipush (v := 36) hx hb dX0_init_39 (by decide) ?_
  refine va_newa (atype := .byte) (ty := .byte) (a0 := (36, .inl (fun _ => 0))) hx hb (hts _ q53) rfl hK hP hD hS hA (fun cA => rfl) (by decide) (by decide) (by decide) (Nat.le_of_ble_eq_true rfl) (Nat.le_of_ble_eq_true rfl) dX0_init_41 (fun q5 b5 H hK hP hD hS => ?_)
  refine W.widen (k := 5) (n := 438) (by omega) (by omega) ?_
  have hP : va_P D vwCl [(h0, .inr (0, [.ref q1, .ref q2, .ref q3, .ref q4, .null, .null, .int 0, .null])), (q1, .inl (b1, 35, .inl (fun _ => 0))), (q2, .inl (b2, 180, .inl (fun _ => 0))), (q3, .inl (b3, 180, .inl (fun _ => 0))), (q4, .inl (b4, 7, .inl (fun _ => 0))), (q5, .inl (b5, 36, .inl (fun _ => 0)))] H := hP
  have hD : va_D A [(h0, .inr (0, [.ref q1, .ref q2, .ref q3, .ref q4, .null, .null, .int 0, .null])), (q1, .inl (b1, 35, .inl (fun _ => 0))), (q2, .inl (b2, 180, .inl (fun _ => 0))), (q3, .inl (b3, 180, .inl (fun _ => 0))), (q4, .inl (b4, 7, .inl (fun _ => 0))), (q5, .inl (b5, 36, .inl (fun _ => 0)))] := hD
  refine va_putF (D := D) (ci := 0) (v := .ref q5) (ty := .array .byte) (C := RX0) (T := TX0) (N := 8) hx hb hts in_X0 tyX0 tyX0_ok nmX0 hown hK hP hD hS 0 rfl rfl 4 (by decide) (hts _ q32) (fun _ h9 => h9) rfl hin rfl (by decide +kernel) rfl rfl (Nat.le_of_ble_eq_true rfl) dX0_init_43 (fun H locs hP hD hS => ?_)
  have hP : va_P D vwCl [(h0, .inr (0, [.ref q1, .ref q2, .ref q3, .ref q4, .ref q5, .null, .int 0, .null])), (q1, .inl (b1, 35, .inl (fun _ => 0))), (q2, .inl (b2, 180, .inl (fun _ => 0))), (q3, .inl (b3, 180, .inl (fun _ => 0))), (q4, .inl (b4, 7, .inl (fun _ => 0))), (q5, .inl (b5, 36, .inl (fun _ => 0)))] H := hP
  have hD : va_D A [(h0, .inr (0, [.ref q1, .ref q2, .ref q3, .ref q4, .ref q5, .null, .int 0, .null])), (q1, .inl (b1, 35, .inl (fun _ => 0))), (q2, .inl (b2, 180, .inl (fun _ => 0))), (q3, .inl (b3, 180, .inl (fun _ => 0))), (q4, .inl (b4, 7, .inl (fun _ => 0))), (q5, .inl (b5, 36, .inl (fun _ => 0)))] := hD
  refine lv_aload_n hx hb dX0_init_46 rfl (lv_at hl 0 rfl) ?_
  refine lv_bipush (v := 36) hx hb dX0_init_47 (by decide) ?_
  refine va_newa (atype := .int) (ty := .int) (a0 := (36, .inl (fun _ => 0))) hx hb (hts _ q54) rfl hK hP hD hS hA (fun cA => rfl) (by decide) (by decide) (by decide) (Nat.le_of_ble_eq_true rfl) (Nat.le_of_ble_eq_true rfl) dX0_init_49 (fun q6 b6 H hK hP hD hS => ?_)
  refine W.widen (k := 6) (n := 474) (by omega) (by omega) ?_
  have hP : va_P D vwCl [(h0, .inr (0, [.ref q1, .ref q2, .ref q3, .ref q4, .ref q5, .null, .int 0, .null])), (q1, .inl (b1, 35, .inl (fun _ => 0))), (q2, .inl (b2, 180, .inl (fun _ => 0))), (q3, .inl (b3, 180, .inl (fun _ => 0))), (q4, .inl (b4, 7, .inl (fun _ => 0))), (q5, .inl (b5, 36, .inl (fun _ => 0))), (q6, .inl (b6, 36, .inl (fun _ => 0)))] H := hP
  have hD : va_D A [(h0, .inr (0, [.ref q1, .ref q2, .ref q3, .ref q4, .ref q5, .null, .int 0, .null])), (q1, .inl (b1, 35, .inl (fun _ => 0))), (q2, .inl (b2, 180, .inl (fun _ => 0))), (q3, .inl (b3, 180, .inl (fun _ => 0))), (q4, .inl (b4, 7, .inl (fun _ => 0))), (q5, .inl (b5, 36, .inl (fun _ => 0))), (q6, .inl (b6, 36, .inl (fun _ => 0)))] := hD
  refine va_putF (D := D) (ci := 0) (v := .ref q6) (ty := .array .int) (C := RX0) (T := TX0) (N := 8) hx hb hts in_X0 tyX0 tyX0_ok nmX0 hown hK hP hD hS 0 rfl rfl 5 (by decide) (hts _ q33) (fun _ h9 => h9) rfl hin rfl (by decide +kernel) rfl rfl (Nat.le_of_ble_eq_true rfl) dX0_init_51 (fun H locs hP hD hS => ?_)
  have hP : va_P D vwCl [(h0, .inr (0, [.ref q1, .ref q2, .ref q3, .ref q4, .ref q5, .ref q6, .int 0, .null])), (q1, .inl (b1, 35, .inl (fun _ => 0))), (q2, .inl (b2, 180, .inl (fun _ => 0))), (q3, .inl (b3, 180, .inl (fun _ => 0))), (q4, .inl (b4, 7, .inl (fun _ => 0))), (q5, .inl (b5, 36, .inl (fun _ => 0))), (q6, .inl (b6, 36, .inl (fun _ => 0)))] H := hP
  have hD : va_D A [(h0, .inr (0, [.ref q1, .ref q2, .ref q3, .ref q4, .ref q5, .ref q6, .int 0, .null])), (q1, .inl (b1, 35, .inl (fun _ => 0))), (q2, .inl (b2, 180, .inl (fun _ => 0))), (q3, .inl (b3, 180, .inl (fun _ => 0))), (q4, .inl (b4, 7, .inl (fun _ => 0))), (q5, .inl (b5, 36, .inl (fun _ => 0))), (q6, .inl (b6, 36, .inl (fun _ => 0)))] := hD
  refine lv_aload_n hx hb dX0_init_54 rfl (lv_at hl 0 rfl) ?_
  refine lv_bipush (v := 6) hx hb dX0_init_55 (by decide) ?_
  refine va_newa (atype := .int) (ty := .int) (a0 := (6, .inl (fun _ => 0))) hx hb (hts _ q54) rfl hK hP hD hS hA (fun cA => rfl) (by decide) (by decide) (by decide) (Nat.le_of_ble_eq_true rfl) (Nat.le_of_ble_eq_true rfl) dX0_init_57 (fun q7 b7 H hK hP hD hS => ?_)
  refine W.widen (k := 7) (n := 480) (by omega) (by omega) ?_
  have hP : va_P D vwCl [(h0, .inr (0, [.ref q1, .ref q2, .ref q3, .ref q4, .ref q5, .ref q6, .int 0, .null])), (q1, .inl (b1, 35, .inl (fun _ => 0))), (q2, .inl (b2, 180, .inl (fun _ => 0))), (q3, .inl (b3, 180, .inl (fun _ => 0))), (q4, .inl (b4, 7, .inl (fun _ => 0))), (q5, .inl (b5, 36, .inl (fun _ => 0))), (q6, .inl (b6, 36, .inl (fun _ => 0))), (q7, .inl (b7, 6, .inl (fun _ => 0)))] H := hP
  have hD : va_D A [(h0, .inr (0, [.ref q1, .ref q2, .ref q3, .ref q4, .ref q5, .ref q6, .int 0, .null])), (q1, .inl (b1, 35, .inl (fun _ => 0))), (q2, .inl (b2, 180, .inl (fun _ => 0))), (q3, .inl (b3, 180, .inl (fun _ => 0))), (q4, .inl (b4, 7, .inl (fun _ => 0))), (q5, .inl (b5, 36, .inl (fun _ => 0))), (q6, .inl (b6, 36, .inl (fun _ => 0))), (q7, .inl (b7, 6, .inl (fun _ => 0)))] := hD
  refine va_putF (D := D) (ci := 0) (v := .ref q7) (ty := .array .int) (C := RX0) (T := TX0) (N := 8) hx hb hts in_X0 tyX0 tyX0_ok nmX0 hown hK hP hD hS 0 rfl rfl 7 (by decide) (hts _ q35) (fun _ h9 => h9) rfl hin rfl (by decide +kernel) rfl rfl (Nat.le_of_ble_eq_true rfl) dX0_init_59 (fun H locs hP hD hS => ?_)
  have hP : va_P D vwCl [(h0, .inr (0, [.ref q1, .ref q2, .ref q3, .ref q4, .ref q5, .ref q6, .int 0, .ref q7])), (q1, .inl (b1, 35, .inl (fun _ => 0))), (q2, .inl (b2, 180, .inl (fun _ => 0))), (q3, .inl (b3, 180, .inl (fun _ => 0))), (q4, .inl (b4, 7, .inl (fun _ => 0))), (q5, .inl (b5, 36, .inl (fun _ => 0))), (q6, .inl (b6, 36, .inl (fun _ => 0))), (q7, .inl (b7, 6, .inl (fun _ => 0)))] H := hP
  have hD : va_D A [(h0, .inr (0, [.ref q1, .ref q2, .ref q3, .ref q4, .ref q5, .ref q6, .int 0, .ref q7])), (q1, .inl (b1, 35, .inl (fun _ => 0))), (q2, .inl (b2, 180, .inl (fun _ => 0))), (q3, .inl (b3, 180, .inl (fun _ => 0))), (q4, .inl (b4, 7, .inl (fun _ => 0))), (q5, .inl (b5, 36, .inl (fun _ => 0))), (q6, .inl (b6, 36, .inl (fun _ => 0))), (q7, .inl (b7, 6, .inl (fun _ => 0)))] := hD
  exact W.vret hx hb hr (fun t ht hW => ⟨⟨(fun k => if k = 0 then h0 else if k = 1 then q1 else if k = 2 then q2 else if k = 3 then q3 else if k = 4 then q4 else if k = 5 then q5 else if k = 6 then q6 else q7, fun k => if k = 1 then b1 else if k = 2 then b2 else if k = 3 then b3 else if k = 4 then b4 else if k = 5 then b5 else if k = 6 then b6 else b7), rfl, rfl, by rw [ht]; exact hP, va_K.moved hW.alike hK, hD⟩, hS.F ht⟩) hS.2.2 dX0_init_62
set_option maxHeartbeats 8000000 in
theorem ctM_init (l : Launch) (D : va_G) (h0 sz : Nat) : Met l yX1_init (ws_ yX1_init cX1_init 1 none) ({ frames := 1, cells := 2, slots := 216, locals := 12 }) (XP D [] [(h0, .inr (1, [.null, .null]))] sz [.ref h0]) (va_Qv (fun (u : (Nat → Nat) × (Nat → ClassId)) => u.1 0 = h0) (fun u t => va_P D vwCl (wM u.1 u.2 (fun _ => 0) (fun _ => 0)) t.heap ∧ va_K D vwCl (tyM u.2) t ∧ va_D (va_A [(h0, .inr (1, [.null, .null]))] sz) (wM u.1 u.2 (fun _ => 0) (fun _ => 0))) (va_A [(h0, .inr (1, [.null, .null]))] sz)) 2 216 (va_A [(h0, .inr (1, [.null, .null]))] sz) := by
  refine Met.ofW (cc := cX1_init) (maxL := 1) (ret := none) (by decide) rfl ?_
  intro p e s m args below meth c s₁ B hml hv
  obtain ⟨rfl, hsz, hP, hK, hD0⟩ := hv
  have hx := B.exec
  have hb := B.bytes
  have hr := B.returns
  have hts := atoms_spec (ws := ws_ yX1_init cX1_init 1 none) B.pre
  have hts : ∀ w ∈ lw_all, w.before _ s = true := fun w h => hts w (List.mem_cons_of_mem _ h)
  have hown : s.vm.findClass RX1 = some m.cls := findClass_of_methodNamed B.named
  have hlocks := B.notSynchronized
  have hin : meth.name = "<init>" := (name_of_methodNamed B.named B.method).1
  subst hsz
  have hD := hD0.self (sz := s.heap.size)
  generalize hAe : va_A [(h0, .inr (1, [.null, .null]))] s.heap.size = A at hD ⊢
  have hA : ∀ q : Nat, s.heap.size ≤ q → A q := fun q h => by rw [← hAe]; exact Or.inr h
  have hS : va_S A s.heap s.heap [] := va_S.rf
  have hP : va_P D vwCl [(h0, .inr (1, [.null, .null]))] s.heap := hP
  have hl := lv_entry ([.ref h0]) (n := 1) (Nat.le_of_ble_eq_true rfl)
  rw [lg_entry_eq]
  generalize (lg_sl ([.ref h0]) ++ List.replicate (1 - (lg_sl ([.ref h0])).length) Slot.unset).toArray = ls at hl ⊢
  have hl : lv_has ls 1 [(0, .ref h0)] := hl
  refine lv_aload_n hx hb dX1_init_0 rfl (lv_at hl 0 rfl) ?_
  refine W.objInit hx hb hown (hts _ q174) (hts _ q26) (hts _ q27) rfl (by rw [hml]; exact hl.1) rfl dX1_init_1 (Nat.le_of_ble_eq_true rfl) (Nat.le_of_ble_eq_true rfl) ?_
  refine W.eq (g2 := F0 m 4 ls []) rfl ?_
  refine lv_aload_n hx hb dX1_init_4 rfl (lv_at hl 0 rfl) ?_
  refine lv_sipush (v := 180) hx hb dX1_init_5 (by decide) ?_
  refine va_newa (atype := .int) (ty := .int) (a0 := (180, .inl (fun _ => 0))) hx hb (hts _ q54) rfl hK hP hD hS hA (fun cA => rfl) (by decide) (by decide) (by decide) (Nat.le_of_ble_eq_true rfl) (Nat.le_of_ble_eq_true rfl) dX1_init_8 (fun q1 b1 H hK hP hD hS => ?_)
  refine W.widen (k := 1) (n := 180) (by omega) (by omega) ?_
  have hP : va_P D vwCl [(h0, .inr (1, [.null, .null])), (q1, .inl (b1, 180, .inl (fun _ => 0)))] H := hP
  have hD : va_D A [(h0, .inr (1, [.null, .null])), (q1, .inl (b1, 180, .inl (fun _ => 0)))] := hD
  refine va_put (D := D) (ci := 1) (v := .ref q1) (ty := .array .int) (C := RX1) (T := TX1) (N := 2) hx hb hts in_X1 tyX1 tyX1_ok nmX1 hown hK hP hD hS 0 rfl rfl 0 (by decide) (hts _ q175) (fun _ h9 => h9) rfl (by decide +kernel) rfl rfl (Nat.le_of_ble_eq_true rfl) dX1_init_10 (fun H locs hP hD hS => ?_)
  have hP : va_P D vwCl [(h0, .inr (1, [.ref q1, .null])), (q1, .inl (b1, 180, .inl (fun _ => 0)))] H := hP
  have hD : va_D A [(h0, .inr (1, [.ref q1, .null])), (q1, .inl (b1, 180, .inl (fun _ => 0)))] := hD
  refine lv_aload_n hx hb dX1_init_13 rfl (lv_at hl 0 rfl) ?_
  refine lv_bipush (v := 36) hx hb dX1_init_14 (by decide) ?_
  refine va_newa (atype := .int) (ty := .int) (a0 := (36, .inl (fun _ => 0))) hx hb (hts _ q54) rfl hK hP hD hS hA (fun cA => rfl) (by decide) (by decide) (by decide) (Nat.le_of_ble_eq_true rfl) (Nat.le_of_ble_eq_true rfl) dX1_init_16 (fun q2 b2 H hK hP hD hS => ?_)
  refine W.widen (k := 2) (n := 216) (by omega) (by omega) ?_
  have hP : va_P D vwCl [(h0, .inr (1, [.ref q1, .null])), (q1, .inl (b1, 180, .inl (fun _ => 0))), (q2, .inl (b2, 36, .inl (fun _ => 0)))] H := hP
  have hD : va_D A [(h0, .inr (1, [.ref q1, .null])), (q1, .inl (b1, 180, .inl (fun _ => 0))), (q2, .inl (b2, 36, .inl (fun _ => 0)))] := hD
  refine va_put (D := D) (ci := 1) (v := .ref q2) (ty := .array .int) (C := RX1) (T := TX1) (N := 2) hx hb hts in_X1 tyX1 tyX1_ok nmX1 hown hK hP hD hS 0 rfl rfl 1 (by decide) (hts _ q176) (fun _ h9 => h9) rfl (by decide +kernel) rfl rfl (Nat.le_of_ble_eq_true rfl) dX1_init_18 (fun H locs hP hD hS => ?_)
  have hP : va_P D vwCl [(h0, .inr (1, [.ref q1, .ref q2])), (q1, .inl (b1, 180, .inl (fun _ => 0))), (q2, .inl (b2, 36, .inl (fun _ => 0)))] H := hP
  have hD : va_D A [(h0, .inr (1, [.ref q1, .ref q2])), (q1, .inl (b1, 180, .inl (fun _ => 0))), (q2, .inl (b2, 36, .inl (fun _ => 0)))] := hD
  exact W.vret hx hb hr (fun t ht hW => ⟨⟨(fun k => if k = 0 then h0 else if k = 1 then q1 else q2, fun k => if k = 1 then b1 else b2), rfl, rfl, by rw [ht]; exact hP, va_K.moved hW.alike hK, hD⟩, hS.F ht⟩) hS.2.2 dX1_init_21
end
section
set_option maxRecDepth 100000
/-! rows for the law: two objects side by side, the script -/
theorem va_Pl {D : va_G} {cl : List vw_C} {w1 w2 : va_W} {H : Heap} (h : va_P D cl (w1 ++ w2) H) : va_P D cl w1 H := fun k q hk => h k q (by rw [List.getElem?_append_left (List.getElem?_eq_some_iff.mp hk).1]; exact hk)
theorem va_Pr {D : va_G} {cl : List vw_C} {w1 w2 : va_W} {H : Heap} (h : va_P D cl (w1 ++ w2) H) : va_P D cl w2 H := fun k q hk => h (w1.length + k) q (by rw [List.getElem?_append_right (Nat.le_add_right _ _), Nat.add_sub_cancel_left]; exact hk)
theorem va_at_l {w1 w2 : va_W} {k : Nat} {q : Nat × va_E} (hk : w1[k]? = some q) : (w1 ++ w2)[k]? = some q := by
  rw [List.getElem?_append_left (List.getElem?_eq_some_iff.mp hk).1]; exact hk
theorem va_at_r {w1 w2 : va_W} {k : Nat} {q : Nat × va_E} (hk : w2[k]? = some q) : (w1 ++ w2)[w1.length + k]? = some q := by
  rw [List.getElem?_append_right (Nat.le_add_right _ _), Nat.add_sub_cancel_left]; exact hk
theorem va_Dl {A : Nat → Prop} {w1 w2 : va_W} (h : va_D A (w1 ++ w2)) : va_D A w1 := ⟨fun i j p q hi hj e => h.1 i j p q (va_at_l hi) (va_at_l hj) e, fun k q hk => h.2 k q (va_at_l hk)⟩
theorem va_Dr {A : Nat → Prop} {w1 w2 : va_W} (h : va_D A (w1 ++ w2)) : va_D A w2 := ⟨fun i j p q hi hj e => Nat.add_left_cancel (h.1 _ _ p q (va_at_r hi) (va_at_r hj) e), fun k q hk => h.2 _ q (va_at_r hk)⟩
theorem va_Dx {A : Nat → Prop} {w1 w2 : va_W} (h : va_D A (w1 ++ w2)) {i j : Nat} {p q : Nat × va_E} (hi : w1[i]? = some p) (hj : w2[j]? = some q) : p.1 ≠ q.1 := by
  intro e
  have h1 := h.1 i (w1.length + j) p q (va_at_l hi) (va_at_r hj) e
  have h2 := (List.getElem?_eq_some_iff.mp hi).1
  omega
theorem va_Dswap {A : Nat → Prop} {w1 w2 : va_W} (h : va_D A (w1 ++ w2)) : va_D A (w2 ++ w1) := va_D.app (va_Dr h) (va_Dl h) (fun i j p q hi hj e => va_Dx h hj hi e.symm)
theorem va_Pswap {D : va_G} {cl : List vw_C} {w1 w2 : va_W} {H : Heap} (h : va_P D cl (w1 ++ w2) H) : va_P D cl (w2 ++ w1) H := va_P.app (va_Pr h) (va_Pl h)
/-- behind a call that had the first object's cells -/
theorem va_side {A : Nat → Prop} {D : va_G} {cl : List vw_C} {w1 w2 w1' : va_W} {H H1 : Heap} (hP : va_P D cl (w1 ++ w2) H) (hD : va_D A (w1 ++ w2)) (hk : ∀ q : Nat, q < H.size → ¬ va_A w1 H.size q → H1[q]? = H[q]?) (hF : ∀ q, va_A w1 H.size q → A q) (hP1 : va_P D cl w1' H1) (hD1 : va_D (va_A w1 H.size) w1') : va_P D cl (w1' ++ w2) H1 ∧ va_D A (w1' ++ w2) := by
  have hlt : ∀ (k : Nat) (q : Nat × va_E), w2[k]? = some q → q.1 < H.size := fun k q h => ((va_Pr hP) k q h).lt
  have hno : ∀ (k : Nat) (q : Nat × va_E), w2[k]? = some q → ¬ va_A w1 H.size q.1 := by
    intro k q h z
    rcases z with ⟨i, e, hi⟩ | z
    · exact va_Dx hD hi h rfl
    · exact absurd (hlt k q h) (Nat.not_lt.mpr z)
  refine ⟨va_P.app hP1 ((va_Pr hP).kept (fun k q h => hk q.1 (hlt k q h) (hno k q h))), va_D.app (hD1.weaken (fun _ _ _ hq => hF _ hq)) (va_Dr hD) (fun i j p q hi hj e => ?_)⟩
  exact hno j q hj (e ▸ hD1.2 i p hi)
section XL
variable {p : Program} {l : Launch} {e : Env} {R : Room} {s : State} {m : MethodId} {args : Array Value} {below : List Frame} {meth : Method} {c : Code} {cells slots : Nat} {Q : State → Prop}
variable {cc : ByteArray} {pc nL dR : Nat} {st : List Value} {lv : List Value} {D : va_G} {A : Nat → Prop} {tys tys1 : List (ClassId × FieldType)} {ws w1 w2 : va_W} {own : String}
theorem x_swap (kk : XW p l e R s m args below meth c cells slots Q D A nL (w2 ++ w1) pc lv st) : XW p l e R s m args below meth c cells slots Q D A nL (w1 ++ w2) pc lv st :=
  fun H locs ls hP hD hS h => kk H locs ls (va_Pswap hP) (va_Dswap hD) hS h
/-- a call through the first object: the second's cells stay -/
theorem x_callIL {S : Type} {y : MethodName} {b : ByteArray} {nL' d n index : Nat} {rt : Option FieldType} {C : String} {T : u_T} {N ci h0 : Nat} {fs : List Value} {As : List Value} {post : Int32 → S → Prop} {w' : S → va_W} (K : XC p R s m args c cells slots D A tys nL cc own dR) (hK1 : va_K D vwCl tys1 s) (hM : CtI l y b nL' rt d D tys1 (.ref h0 :: As) w1 post w')
    (h1 : Cond.methodLink own index y ∈ lw_all) (h2 : Cond.instanceMethod y ∈ lw_all) (h3 : Cond.selects C y y ∈ lw_all) (h4 : Cond.initialized C ∈ lw_all) (h5 : Cond.code y b nL' rt ∈ lw_all)
    (hd : y.cls = C ∧ y.cls ≠ "java/lang/invoke/MethodHandle" ∧ y.cls ≠ "java/lang/invoke/VarHandle" ∧ (parseMethodDescriptor y.desc).map (fun d => d.parameters.length) = some n) (hdR : d + 1 ≤ dR) (hnL : nL' ≤ 12) (he : w1[0]? = some (h0, .inr (ci, fs))) (hc : vwCl[ci]? = some (C, T, N)) (hn : As.length = n)
    {st0 : List Value} (hst : st0 = As.reverse ++ .ref h0 :: st) (hroom : (st.map fun v => v.category).sum ≤ 8) (hdg : decode cc pc = .ok (.invokevirtual index, 3))
    (kk : ∀ (r : Int32) (u : S), post r u → XW p l e R s m args below meth c cells slots Q D A nL (w' u ++ w2) (pc + 3) lv (.int r :: st)) : XW p l e R s m args below meth c cells slots Q D A nL (w1 ++ w2) pc lv st0 := by
  intro H locs ls hP hD hS h
  obtain ⟨hx, hb, hml, hown, hts, hK, hA, hR, hcs⟩ := K
  have hPc := va_Pl hP
  have hDc := va_Dl hD
  have hFc := xa_in hA hDc hS
  refine va_calli (va_runV (As := As) (rest := st) ⟨hx, hb, hml, hown, hts⟩ (hM H.size) (cwV n hts (lw_V h1 h2 h3 h4 h5) rfl rfl rfl hd ⟨by show d + 1 ≤ _; omega, by show 8 + (nL' + 11) + 31 * d ≤ _; omega⟩) ⟨xp_blind, va_recv hK1 hPc hc he, fun U hU hW => ⟨rfl, by rw [hU], by rw [hU]; exact hPc, va_K.moved hW.alike hK1, hDc.weaken (fun _ _ _ _ => trivial)⟩⟩ rfl hn h.1 hst (lv_room hroom) hdg ⟨hcs.1, hcs.2⟩) hS (fun q _ h => hFc q h) hFc (fun r u t H1 locs1 ht hvm hpost hB hz hk hS1 => ?_)
  obtain ⟨hP1, hK1', hD1⟩ := hB
  rw [ht] at hP1
  obtain ⟨hP2, hD2⟩ := va_side hP hD hk hFc hP1 hD1
  exact kk r u hpost H1 locs1 ls hP2 hD2 hS1 h
/-- .. through the second object -/
theorem x_callIR {S : Type} {y : MethodName} {b : ByteArray} {nL' d n index : Nat} {rt : Option FieldType} {C : String} {T : u_T} {N ci h0 : Nat} {fs : List Value} {As : List Value} {post : Int32 → S → Prop} {w' : S → va_W} (K : XC p R s m args c cells slots D A tys nL cc own dR) (hK1 : va_K D vwCl tys1 s) (hM : CtI l y b nL' rt d D tys1 (.ref h0 :: As) w2 post w')
    (h1 : Cond.methodLink own index y ∈ lw_all) (h2 : Cond.instanceMethod y ∈ lw_all) (h3 : Cond.selects C y y ∈ lw_all) (h4 : Cond.initialized C ∈ lw_all) (h5 : Cond.code y b nL' rt ∈ lw_all)
    (hd : y.cls = C ∧ y.cls ≠ "java/lang/invoke/MethodHandle" ∧ y.cls ≠ "java/lang/invoke/VarHandle" ∧ (parseMethodDescriptor y.desc).map (fun d => d.parameters.length) = some n) (hdR : d + 1 ≤ dR) (hnL : nL' ≤ 12) (he : w2[0]? = some (h0, .inr (ci, fs))) (hc : vwCl[ci]? = some (C, T, N)) (hn : As.length = n)
    {st0 : List Value} (hst : st0 = As.reverse ++ .ref h0 :: st) (hroom : (st.map fun v => v.category).sum ≤ 8) (hdg : decode cc pc = .ok (.invokevirtual index, 3))
    (kk : ∀ (r : Int32) (u : S), post r u → XW p l e R s m args below meth c cells slots Q D A nL (w1 ++ w' u) (pc + 3) lv (.int r :: st)) : XW p l e R s m args below meth c cells slots Q D A nL (w1 ++ w2) pc lv st0 :=
  x_swap (x_callIL K hK1 hM h1 h2 h3 h4 h5 hd hdR hnL he hc hn hst hroom hdg (fun r u h => x_swap (kk r u h)))
theorem x_sld (K : XC p R s m args c cells slots D A tys nL cc own dR) {b L : Nat} {xs : Nat → Int32} (hX : va_X b L xs s s.heap) (hbl : b < s.heap.size) (hbA : ¬ A b) (hL : L < 2 ^ 31) {k : Nat} (hk : k < L) (hdg : decode cc pc = .ok (.iaload, 1)) (kk : XW p l e R s m args below meth c cells slots Q D A nL ws (pc + 1) lv (.int (xs k) :: st)) : XW p l e R s m args below meth c cells slots Q D A nL ws pc lv (.int (nI k) :: .ref b :: st) := by
  intro H locs ls hP hD hS h
  refine va_sld K.1 K.2.1 hX hbl hbA hS (vp_in_nI hk hL) hdg ?_
  rw [nI_clamp (by omega)]
  exact kk H locs ls hP hD hS h
theorem x_slen (K : XC p R s m args c cells slots D A tys nL cc own dR) {b L : Nat} {xs : Nat → Int32} (hX : va_X b L xs s s.heap) (hbl : b < s.heap.size) (hbA : ¬ A b) (hdg : decode cc pc = .ok (.arraylength, 1)) (kk : XW p l e R s m args below meth c cells slots Q D A nL ws (pc + 1) lv (.int (nI L) :: st)) : XW p l e R s m args below meth c cells slots Q D A nL ws pc lv (.ref b :: st) :=
  fun H locs ls hP hD hS h => va_slen K.1 K.2.1 hX hbl hbA hS hdg (kk H locs ls hP hD hS h)
theorem x_tsIn (K : XC p R s m args c cells slots D A tys nL cc own dR) {dflt lo hi : Int} {offs : Array Int} {len : Nat} {x : Int32} {off : Int} (tgt : Nat) (hdg : decode cc pc = .ok (.tableswitch dflt lo hi offs, len)) (h1 : ¬ x.toInt < lo) (h2 : ¬ hi < x.toInt) (ho : offs[(x.toInt - lo).toNat]? = some off) (ht : (pc : Int) + off = (tgt : Int)) (kk : XW p l e R s m args below meth c cells slots Q D A nL ws tgt lv st) : XW p l e R s m args below meth c cells slots Q D A nL ws pc lv (.int x :: st) :=
  fun H locs ls hP hD hS h => lv_tableIn K.1 K.2.1 hdg h1 h2 ho ht (kk H locs ls hP hD hS h)
theorem x_tsOut (K : XC p R s m args c cells slots D A tys nL cc own dR) {dflt lo hi : Int} {offs : Array Int} {len : Nat} {x : Int32} (tgt : Nat) (hdg : decode cc pc = .ok (.tableswitch dflt lo hi offs, len)) (h1 : x.toInt < lo ∨ hi < x.toInt) (ht : (pc : Int) + dflt = (tgt : Int)) (kk : XW p l e R s m args below meth c cells slots Q D A nL ws tgt lv st) : XW p l e R s m args below meth c cells slots Q D A nL ws pc lv (.int x :: st) :=
  fun H locs ls hP hD hS h => lv_tableOut K.1 K.2.1 hdg h1 ht (kk H locs ls hP hD hS h)
end XL
/-- an empty matrix -/
theorem ct_0 (n : Nat) : ct (fun _ => 0) n = 0 := by
  induction n with
  | zero => rfl
  | succ n ih => rw [ct_s0 rfl]; exact ih
theorem rep_0 : Rep (fun _ => 0) (fun _ => 0) (fun _ => 0) (fun _ => 0) := by
  intro s _
  refine ⟨fun i _ => ?_, fun c _ h => absurd rfl h⟩
  show (0 : Int32) = nI (ct (fun _ => 0) (6 * i))
  rw [ct_0]
  rfl
end
section
set_option maxRecDepth 100000
/-! the law: its loop, its start -/
/-! THE CLAIM OUT OF ONE WALK OF THE LAW'S BODY. Your part is whole_start (and what it stands on); all else here is the same for every law, but numbers. -/
def R_law : String := "SparseKernelsLaw"
def lw_P (b : Addr) (xs : List Int32) (args : Array Value) (s : State) : Prop := args = #[.ref b] ∧ s.IntsAt b xs ∧ xs.length ≤ 320 ∧ (Jvm.Cond.and given_1 narrow_1).before args s = true
def lw_Q (_ : Array Value) (s : State) (o : Outcome) (t : State) : Prop := o = .returned (some (.int 1)) ∧ Framed s o t [] 600000 7290000
def lw_Z (below : List Frame) (a : Array Value) (s : State) : State → Prop := fun t => ∃ o, t.status = .running ∧ Ended t below o ∧ lw_Q a s o t
/-- the law's own end, with 1 on the stack, nothing written that was there before, its room as the claim has it -/
theorem lw_ret {p : Program} {l : Launch} {e : Env} {s : State} {m : MethodId} {below : List Frame} {meth : Method} {c : Code} {b : Nat} (hx : p.tables.exec = Jvm.exec) (hb : c.code = code) (hr : meth.sig.returnType = ret) (hlocks : meth.locks = false) {pc : Nat} {H : Heap} {ls : Array Slot} (hdg : decode code pc = .ok (.ireturn, 1)) : W p l e room_1 s m #[Value.ref b] below meth c H [] 600000 7290000 (lw_Z below #[Value.ref b] s) (F0 m pc ls [.int 1]) := by
  intro T hT X
  obtain ⟨fs, hret, hrun, hended, hW, hframe⟩ := X.leave (v := some (.int 1)) (hlocks := hlocks) (fun h => by rw [hr] at h; cases h)
  have hmeth' : T.vm.method? m = some meth := X.method'
  refine ⟨T.setFrames fs, ?_, .returned (some (.int 1)), hrun, hended, rfl, ⟨_, rfl⟩, hW, hframe⟩
  jvm_step X.here [X.here.top, hx, hb, hdg, hmeth', hr, ret, narrow_b1]
  (try refine ⟨rfl, ?_⟩); (try refine ⟨rfl, ?_⟩)
  first | (intro acts; rw [hret _ acts rfl rfl rfl]) | rw [hret _ _ rfl rfl rfl]
  exact Steps.refl _
/-- what holds at the law's entry: the machine, the code, the tables' words (any of lw_tbl by 'hts w (by decide +kernel)'), the script of L ints xs at the cell b, what the Statement gives of the start (any of its parts by flat_of_before) -/
def lw_At (p : Program) (s : State) (m : MethodId) (meth : Method) (c : Code) (b L : Nat) (xs : Nat → Int32) : Prop :=
  p.tables.exec = Jvm.exec ∧ c.code = code ∧ meth.sig.returnType = ret ∧ c.maxLocals = 4 ∧ s.vm.findClass R_law = some m.cls ∧ (∀ w ∈ lw_tbl, w.before #[Value.ref b] s = true) ∧ va_X b L xs s s.heap ∧ b < s.heap.size ∧ meth.locks = false ∧ (Jvm.Cond.and given_1 narrow_1).before #[Value.ref b] s = true
theorem lw_gt {L i : Nat} (hL : L ≤ 320) (hi : i ≤ L) : nI L - nI 5 < nI i ↔ L < i + 5 := by
  rw [Int32.lt_iff_toInt_lt, pk_sub_toInt (by omega) (by omega), nI_toInt (by omega)]
  omega
theorem lp_of4 {ls : Array Slot} {n : Nat} {a b c d : Value} (h : lv_has ls n [(3, d), (2, c), (1, b), (0, a)]) (ha : a.category = 1) (hb : b.category = 1) (hc : c.category = 1) (hd : d.category = 1) : lp ls n [a, b, c, d] := by
  refine ⟨h.1, h.2.1, fun i v hi => ?_⟩
  match i, hi with
  | 0, hi => cases hi; exact ⟨ha, lv_at h 3 rfl⟩
  | 1, hi => cases hi; exact ⟨hb, lv_at h 2 rfl⟩
  | 2, hi => cases hi; exact ⟨hc, lv_at h 1 rfl⟩
  | 3, hi => cases hi; exact ⟨hd, lv_at h 0 rfl⟩
  | k + 4, hi => simp at hi
set_option maxHeartbeats 4000000 in
/-- the law, case 0: put -/
theorem law_put {p : Program} {e : Env} {s : State} {m : MethodId} {below : List Frame} {meth : Method} {c : Code} (l : Launch) {b L : Nat} {xs : Nat → Int32} (hL : L ≤ 320) (hX : va_X b L xs s s.heap) (hbl : b < s.heap.size) (hbA : ¬ s.heap.size ≤ b) {D : va_G} {ad ae : Nat → Nat} {bd be : Nat → ClassId} (hK1 : va_K D vwCl (tyX bd) s) (hK2 : va_K D vwCl (tyM be) s) (K : XC p room_1 s m #[Value.ref b] c 11 706 D (fun q : Nat => s.heap.size ≤ q) (tyX bd) 4 cL_law R_law 5) {i : Nat} {S C V NS NC NV : Nat → Int32} {mk : Nat} {Wk a b2 : Nat → Int32} (hi : i + 5 ≤ L) (hR : Rep S C V a)
    (ih : ∀ (S C V NS NC NV : Nat → Int32) (mk : Nat) (Wk a b2 : Nat → Int32), Rep S C V a → XW p l e room_1 s m #[Value.ref b] below meth c 11 706 (lw_Z below #[Value.ref b] s) D (fun q : Nat => s.heap.size ≤ q) 4 (wX ad bd S C V NS NC NV mk Wk ++ wM ae be a b2) 703 [.ref b, .ref (ad 0), .ref (ae 0), .int (nI i)] []) : XW p l e room_1 s m #[Value.ref b] below meth c 11 706 (lw_Z below #[Value.ref b] s) D (fun q : Nat => s.heap.size ≤ q) 4 (wX ad bd S C V NS NC NV mk Wk ++ wM ae be a b2) 108 [.ref b, .ref (ad 0), .ref (ae 0), .int (nI i)] [] := by
  refine x_aload_n K dL_law_108 rfl ?_
  refine x_aload_n K dL_law_109 rfl ?_
  refine x_iload_n K dL_law_110 rfl ?_
  refine x_iconst K (nI 1) dL_law_111 (by decide) ?_
  refine x_iaddN K dL_law_112 ?_
  refine x_sld K hX hbl hbA (by omega) (by omega) dL_law_113 ?_
  refine x_aload_n K dL_law_114 rfl ?_
  refine x_iload_n K dL_law_115 rfl ?_
  refine x_iconst K (nI 2) dL_law_116 (by decide) ?_
  refine x_iaddN K dL_law_117 ?_
  refine x_sld K hX hbl hbA (by omega) (by omega) dL_law_118 ?_
  refine x_aload_n K dL_law_119 rfl ?_
  refine x_iload_n K dL_law_120 rfl ?_
  refine x_iconst K (nI 3) dL_law_121 (by decide) ?_
  refine x_iaddN K dL_law_122 ?_
  refine x_sld K hX hbl hbA (by omega) (by omega) dL_law_123 ?_
  refine x_aload_n K dL_law_124 rfl ?_
  refine x_iload_n K dL_law_125 rfl ?_
  refine x_iconst K (nI 4) dL_law_126 (by decide) ?_
  refine x_iaddN K dL_law_127 ?_
  refine x_sld K hX hbl hbA (by omega) (by omega) dL_law_128 ?_
  refine x_callIL (n := 4) K hK1 (ctX_put l (t := xs (i + 1)) (x := xs (i + 2)) (y := xs (i + 3)) (v := xs (i + 4)) hR) q55 q56 q57 q18 q58 (by decide +kernel) (by decide) (by decide) rfl rfl rfl rfl (Nat.le_of_ble_eq_true rfl) dL_law_129 (fun r1 u1 h1 => ?_)
  obtain ⟨S1, C1, V1, NS1, NC1, NV1, mk1, Wk1⟩ := u1
  obtain ⟨e1, hR1⟩ := h1
  refine x_aload_n K dL_law_132 rfl ?_
  refine x_aload_n K dL_law_133 rfl ?_
  refine x_iload_n K dL_law_134 rfl ?_
  refine x_iconst K (nI 1) dL_law_135 (by decide) ?_
  refine x_iaddN K dL_law_136 ?_
  refine x_sld K hX hbl hbA (by omega) (by omega) dL_law_137 ?_
  refine x_aload_n K dL_law_138 rfl ?_
  refine x_iload_n K dL_law_139 rfl ?_
  refine x_iconst K (nI 2) dL_law_140 (by decide) ?_
  refine x_iaddN K dL_law_141 ?_
  refine x_sld K hX hbl hbA (by omega) (by omega) dL_law_142 ?_
  refine x_aload_n K dL_law_143 rfl ?_
  refine x_iload_n K dL_law_144 rfl ?_
  refine x_iconst K (nI 3) dL_law_145 (by decide) ?_
  refine x_iaddN K dL_law_146 ?_
  refine x_sld K hX hbl hbA (by omega) (by omega) dL_law_147 ?_
  refine x_aload_n K dL_law_148 rfl ?_
  refine x_iload_n K dL_law_149 rfl ?_
  refine x_iconst K (nI 4) dL_law_150 (by decide) ?_
  refine x_iaddN K dL_law_151 ?_
  refine x_sld K hX hbl hbA (by omega) (by omega) dL_law_152 ?_
  refine x_callIR (n := 4) K hK2 (ctM_put l (t := xs (i + 1)) (x := xs (i + 2)) (y := xs (i + 3)) (v := xs (i + 4))) q182 q183 q184 q19 q185 (by decide +kernel) (by decide) (by decide) rfl rfl rfl rfl (Nat.le_of_ble_eq_true rfl) dL_law_153 (fun r2 u2 h2 => ?_)
  obtain ⟨a3, b3⟩ := u2
  obtain ⟨e2, h3⟩ := h2
  refine x_cmp_eq K 703 dL_law_156 (by decide) (fun _ => ?_) (fun q => absurd (e1.trans e2.symm) q)
  exact ih S1 C1 V1 NS1 NC1 NV1 mk1 Wk1 a3 b3 (by rw [show a3 = _ from h3]; exact hR1)
set_option maxHeartbeats 4000000 in
/-- the law, case 1: add -/
theorem law_add {p : Program} {e : Env} {s : State} {m : MethodId} {below : List Frame} {meth : Method} {c : Code} (l : Launch) {b L : Nat} {xs : Nat → Int32} (hL : L ≤ 320) (hX : va_X b L xs s s.heap) (hbl : b < s.heap.size) (hbA : ¬ s.heap.size ≤ b) {D : va_G} {ad ae : Nat → Nat} {bd be : Nat → ClassId} (hK1 : va_K D vwCl (tyX bd) s) (hK2 : va_K D vwCl (tyM be) s) (K : XC p room_1 s m #[Value.ref b] c 11 706 D (fun q : Nat => s.heap.size ≤ q) (tyX bd) 4 cL_law R_law 5) {i : Nat} {S C V NS NC NV : Nat → Int32} {mk : Nat} {Wk a b2 : Nat → Int32} (hi : i + 5 ≤ L) (hR : Rep S C V a)
    (ih : ∀ (S C V NS NC NV : Nat → Int32) (mk : Nat) (Wk a b2 : Nat → Int32), Rep S C V a → XW p l e room_1 s m #[Value.ref b] below meth c 11 706 (lw_Z below #[Value.ref b] s) D (fun q : Nat => s.heap.size ≤ q) 4 (wX ad bd S C V NS NC NV mk Wk ++ wM ae be a b2) 703 [.ref b, .ref (ad 0), .ref (ae 0), .int (nI i)] []) : XW p l e room_1 s m #[Value.ref b] below meth c 11 706 (lw_Z below #[Value.ref b] s) D (fun q : Nat => s.heap.size ≤ q) 4 (wX ad bd S C V NS NC NV mk Wk ++ wM ae be a b2) 161 [.ref b, .ref (ad 0), .ref (ae 0), .int (nI i)] [] := by
  refine x_aload_n K dL_law_161 rfl ?_
  refine x_aload_n K dL_law_162 rfl ?_
  refine x_iload_n K dL_law_163 rfl ?_
  refine x_iconst K (nI 1) dL_law_164 (by decide) ?_
  refine x_iaddN K dL_law_165 ?_
  refine x_sld K hX hbl hbA (by omega) (by omega) dL_law_166 ?_
  refine x_aload_n K dL_law_167 rfl ?_
  refine x_iload_n K dL_law_168 rfl ?_
  refine x_iconst K (nI 2) dL_law_169 (by decide) ?_
  refine x_iaddN K dL_law_170 ?_
  refine x_sld K hX hbl hbA (by omega) (by omega) dL_law_171 ?_
  refine x_aload_n K dL_law_172 rfl ?_
  refine x_iload_n K dL_law_173 rfl ?_
  refine x_iconst K (nI 3) dL_law_174 (by decide) ?_
  refine x_iaddN K dL_law_175 ?_
  refine x_sld K hX hbl hbA (by omega) (by omega) dL_law_176 ?_
  refine x_callIL (n := 3) K hK1 (ctX_add l (t := xs (i + 1)) (x := xs (i + 2)) (y := xs (i + 3)) hR) q97 q98 q99 q18 q100 (by decide +kernel) (by decide) (by decide) rfl rfl rfl rfl (Nat.le_of_ble_eq_true rfl) dL_law_177 (fun r1 u1 h1 => ?_)
  obtain ⟨S1, C1, V1, NS1, NC1, NV1, mk1, Wk1⟩ := u1
  obtain ⟨e1, hR1⟩ := h1
  refine x_aload_n K dL_law_180 rfl ?_
  refine x_aload_n K dL_law_181 rfl ?_
  refine x_iload_n K dL_law_182 rfl ?_
  refine x_iconst K (nI 1) dL_law_183 (by decide) ?_
  refine x_iaddN K dL_law_184 ?_
  refine x_sld K hX hbl hbA (by omega) (by omega) dL_law_185 ?_
  refine x_aload_n K dL_law_186 rfl ?_
  refine x_iload_n K dL_law_187 rfl ?_
  refine x_iconst K (nI 2) dL_law_188 (by decide) ?_
  refine x_iaddN K dL_law_189 ?_
  refine x_sld K hX hbl hbA (by omega) (by omega) dL_law_190 ?_
  refine x_aload_n K dL_law_191 rfl ?_
  refine x_iload_n K dL_law_192 rfl ?_
  refine x_iconst K (nI 3) dL_law_193 (by decide) ?_
  refine x_iaddN K dL_law_194 ?_
  refine x_sld K hX hbl hbA (by omega) (by omega) dL_law_195 ?_
  refine x_callIR (n := 3) K hK2 (ctM_add l (t := xs (i + 1)) (x := xs (i + 2)) (y := xs (i + 3))) q194 q195 q196 q19 q197 (by decide +kernel) (by decide) (by decide) rfl rfl rfl rfl (Nat.le_of_ble_eq_true rfl) dL_law_196 (fun r2 u2 h2 => ?_)
  obtain ⟨a3, b3⟩ := u2
  obtain ⟨e2, h3⟩ := h2
  refine x_cmp_eq K 703 dL_law_199 (by decide) (fun _ => ?_) (fun q => absurd (e1.trans e2.symm) q)
  exact ih S1 C1 V1 NS1 NC1 NV1 mk1 Wk1 a3 b3 (by rw [show a3 = _ from h3]; exact hR1)
set_option maxHeartbeats 4000000 in
/-- the law, case 2: entrywise -/
theorem law_entrywise {p : Program} {e : Env} {s : State} {m : MethodId} {below : List Frame} {meth : Method} {c : Code} (l : Launch) {b L : Nat} {xs : Nat → Int32} (hL : L ≤ 320) (hX : va_X b L xs s s.heap) (hbl : b < s.heap.size) (hbA : ¬ s.heap.size ≤ b) {D : va_G} {ad ae : Nat → Nat} {bd be : Nat → ClassId} (hK1 : va_K D vwCl (tyX bd) s) (hK2 : va_K D vwCl (tyM be) s) (K : XC p room_1 s m #[Value.ref b] c 11 706 D (fun q : Nat => s.heap.size ≤ q) (tyX bd) 4 cL_law R_law 5) {i : Nat} {S C V NS NC NV : Nat → Int32} {mk : Nat} {Wk a b2 : Nat → Int32} (hi : i + 5 ≤ L) (hR : Rep S C V a)
    (ih : ∀ (S C V NS NC NV : Nat → Int32) (mk : Nat) (Wk a b2 : Nat → Int32), Rep S C V a → XW p l e room_1 s m #[Value.ref b] below meth c 11 706 (lw_Z below #[Value.ref b] s) D (fun q : Nat => s.heap.size ≤ q) 4 (wX ad bd S C V NS NC NV mk Wk ++ wM ae be a b2) 703 [.ref b, .ref (ad 0), .ref (ae 0), .int (nI i)] []) : XW p l e room_1 s m #[Value.ref b] below meth c 11 706 (lw_Z below #[Value.ref b] s) D (fun q : Nat => s.heap.size ≤ q) 4 (wX ad bd S C V NS NC NV mk Wk ++ wM ae be a b2) 204 [.ref b, .ref (ad 0), .ref (ae 0), .int (nI i)] [] := by
  refine x_aload_n K dL_law_204 rfl ?_
  refine x_aload_n K dL_law_205 rfl ?_
  refine x_iload_n K dL_law_206 rfl ?_
  refine x_iconst K (nI 1) dL_law_207 (by decide) ?_
  refine x_iaddN K dL_law_208 ?_
  refine x_sld K hX hbl hbA (by omega) (by omega) dL_law_209 ?_
  refine x_aload_n K dL_law_210 rfl ?_
  refine x_iload_n K dL_law_211 rfl ?_
  refine x_iconst K (nI 2) dL_law_212 (by decide) ?_
  refine x_iaddN K dL_law_213 ?_
  refine x_sld K hX hbl hbA (by omega) (by omega) dL_law_214 ?_
  refine x_aload_n K dL_law_215 rfl ?_
  refine x_iload_n K dL_law_216 rfl ?_
  refine x_iconst K (nI 3) dL_law_217 (by decide) ?_
  refine x_iaddN K dL_law_218 ?_
  refine x_sld K hX hbl hbA (by omega) (by omega) dL_law_219 ?_
  refine x_callIL (n := 3) K hK1 (ctX_entrywise l (t := xs (i + 1)) (x := xs (i + 2)) (y := xs (i + 3)) hR) q105 q106 q107 q18 q108 (by decide +kernel) (by decide) (by decide) rfl rfl rfl rfl (Nat.le_of_ble_eq_true rfl) dL_law_220 (fun r1 u1 h1 => ?_)
  obtain ⟨S1, C1, V1, NS1, NC1, NV1, mk1, Wk1⟩ := u1
  obtain ⟨e1, hR1⟩ := h1
  refine x_aload_n K dL_law_223 rfl ?_
  refine x_aload_n K dL_law_224 rfl ?_
  refine x_iload_n K dL_law_225 rfl ?_
  refine x_iconst K (nI 1) dL_law_226 (by decide) ?_
  refine x_iaddN K dL_law_227 ?_
  refine x_sld K hX hbl hbA (by omega) (by omega) dL_law_228 ?_
  refine x_aload_n K dL_law_229 rfl ?_
  refine x_iload_n K dL_law_230 rfl ?_
  refine x_iconst K (nI 2) dL_law_231 (by decide) ?_
  refine x_iaddN K dL_law_232 ?_
  refine x_sld K hX hbl hbA (by omega) (by omega) dL_law_233 ?_
  refine x_aload_n K dL_law_234 rfl ?_
  refine x_iload_n K dL_law_235 rfl ?_
  refine x_iconst K (nI 3) dL_law_236 (by decide) ?_
  refine x_iaddN K dL_law_237 ?_
  refine x_sld K hX hbl hbA (by omega) (by omega) dL_law_238 ?_
  refine x_callIR (n := 3) K hK2 (ctM_entrywise l (t := xs (i + 1)) (x := xs (i + 2)) (y := xs (i + 3))) q206 q207 q208 q19 q209 (by decide +kernel) (by decide) (by decide) rfl rfl rfl rfl (Nat.le_of_ble_eq_true rfl) dL_law_239 (fun r2 u2 h2 => ?_)
  obtain ⟨a3, b3⟩ := u2
  obtain ⟨e2, h3⟩ := h2
  refine x_cmp_eq K 703 dL_law_242 (by decide) (fun _ => ?_) (fun q => absurd (e1.trans e2.symm) q)
  exact ih S1 C1 V1 NS1 NC1 NV1 mk1 Wk1 a3 b3 (by rw [show a3 = _ from h3]; exact hR1)
set_option maxHeartbeats 4000000 in
/-- the law, case 3: product -/
theorem law_product {p : Program} {e : Env} {s : State} {m : MethodId} {below : List Frame} {meth : Method} {c : Code} (l : Launch) {b L : Nat} {xs : Nat → Int32} (hL : L ≤ 320) (hX : va_X b L xs s s.heap) (hbl : b < s.heap.size) (hbA : ¬ s.heap.size ≤ b) {D : va_G} {ad ae : Nat → Nat} {bd be : Nat → ClassId} (hK1 : va_K D vwCl (tyX bd) s) (hK2 : va_K D vwCl (tyM be) s) (K : XC p room_1 s m #[Value.ref b] c 11 706 D (fun q : Nat => s.heap.size ≤ q) (tyX bd) 4 cL_law R_law 5) {i : Nat} {S C V NS NC NV : Nat → Int32} {mk : Nat} {Wk a b2 : Nat → Int32} (hi : i + 5 ≤ L) (hR : Rep S C V a)
    (ih : ∀ (S C V NS NC NV : Nat → Int32) (mk : Nat) (Wk a b2 : Nat → Int32), Rep S C V a → XW p l e room_1 s m #[Value.ref b] below meth c 11 706 (lw_Z below #[Value.ref b] s) D (fun q : Nat => s.heap.size ≤ q) 4 (wX ad bd S C V NS NC NV mk Wk ++ wM ae be a b2) 703 [.ref b, .ref (ad 0), .ref (ae 0), .int (nI i)] []) : XW p l e room_1 s m #[Value.ref b] below meth c 11 706 (lw_Z below #[Value.ref b] s) D (fun q : Nat => s.heap.size ≤ q) 4 (wX ad bd S C V NS NC NV mk Wk ++ wM ae be a b2) 247 [.ref b, .ref (ad 0), .ref (ae 0), .int (nI i)] [] := by
  refine x_aload_n K dL_law_247 rfl ?_
  refine x_aload_n K dL_law_248 rfl ?_
  refine x_iload_n K dL_law_249 rfl ?_
  refine x_iconst K (nI 1) dL_law_250 (by decide) ?_
  refine x_iaddN K dL_law_251 ?_
  refine x_sld K hX hbl hbA (by omega) (by omega) dL_law_252 ?_
  refine x_aload_n K dL_law_253 rfl ?_
  refine x_iload_n K dL_law_254 rfl ?_
  refine x_iconst K (nI 2) dL_law_255 (by decide) ?_
  refine x_iaddN K dL_law_256 ?_
  refine x_sld K hX hbl hbA (by omega) (by omega) dL_law_257 ?_
  refine x_aload_n K dL_law_258 rfl ?_
  refine x_iload_n K dL_law_259 rfl ?_
  refine x_iconst K (nI 3) dL_law_260 (by decide) ?_
  refine x_iaddN K dL_law_261 ?_
  refine x_sld K hX hbl hbA (by omega) (by omega) dL_law_262 ?_
  refine x_callIL (n := 3) K hK1 (ctX_product l (t := xs (i + 1)) (x := xs (i + 2)) (y := xs (i + 3)) hR) q113 q114 q115 q18 q116 (by decide +kernel) (by decide) (by decide) rfl rfl rfl rfl (Nat.le_of_ble_eq_true rfl) dL_law_263 (fun r1 u1 h1 => ?_)
  obtain ⟨S1, C1, V1, NS1, NC1, NV1, mk1, Wk1⟩ := u1
  obtain ⟨e1, hR1⟩ := h1
  refine x_aload_n K dL_law_266 rfl ?_
  refine x_aload_n K dL_law_267 rfl ?_
  refine x_iload_n K dL_law_268 rfl ?_
  refine x_iconst K (nI 1) dL_law_269 (by decide) ?_
  refine x_iaddN K dL_law_270 ?_
  refine x_sld K hX hbl hbA (by omega) (by omega) dL_law_271 ?_
  refine x_aload_n K dL_law_272 rfl ?_
  refine x_iload_n K dL_law_273 rfl ?_
  refine x_iconst K (nI 2) dL_law_274 (by decide) ?_
  refine x_iaddN K dL_law_275 ?_
  refine x_sld K hX hbl hbA (by omega) (by omega) dL_law_276 ?_
  refine x_aload_n K dL_law_277 rfl ?_
  refine x_iload_n K dL_law_278 rfl ?_
  refine x_iconst K (nI 3) dL_law_279 (by decide) ?_
  refine x_iaddN K dL_law_280 ?_
  refine x_sld K hX hbl hbA (by omega) (by omega) dL_law_281 ?_
  refine x_callIR (n := 3) K hK2 (ctM_product l (t := xs (i + 1)) (x := xs (i + 2)) (y := xs (i + 3))) q210 q211 q212 q19 q213 (by decide +kernel) (by decide) (by decide) rfl rfl rfl rfl (Nat.le_of_ble_eq_true rfl) dL_law_282 (fun r2 u2 h2 => ?_)
  obtain ⟨a3, b3⟩ := u2
  obtain ⟨e2, h3⟩ := h2
  refine x_cmp_eq K 703 dL_law_285 (by decide) (fun _ => ?_) (fun q => absurd (e1.trans e2.symm) q)
  exact ih S1 C1 V1 NS1 NC1 NV1 mk1 Wk1 a3 b3 (by rw [show a3 = _ from h3]; exact hR1)
set_option maxHeartbeats 4000000 in
/-- the law, case 4: masked -/
theorem law_masked {p : Program} {e : Env} {s : State} {m : MethodId} {below : List Frame} {meth : Method} {c : Code} (l : Launch) {b L : Nat} {xs : Nat → Int32} (hL : L ≤ 320) (hX : va_X b L xs s s.heap) (hbl : b < s.heap.size) (hbA : ¬ s.heap.size ≤ b) {D : va_G} {ad ae : Nat → Nat} {bd be : Nat → ClassId} (hK1 : va_K D vwCl (tyX bd) s) (hK2 : va_K D vwCl (tyM be) s) (K : XC p room_1 s m #[Value.ref b] c 11 706 D (fun q : Nat => s.heap.size ≤ q) (tyX bd) 4 cL_law R_law 5) {i : Nat} {S C V NS NC NV : Nat → Int32} {mk : Nat} {Wk a b2 : Nat → Int32} (hi : i + 5 ≤ L) (hR : Rep S C V a)
    (ih : ∀ (S C V NS NC NV : Nat → Int32) (mk : Nat) (Wk a b2 : Nat → Int32), Rep S C V a → XW p l e room_1 s m #[Value.ref b] below meth c 11 706 (lw_Z below #[Value.ref b] s) D (fun q : Nat => s.heap.size ≤ q) 4 (wX ad bd S C V NS NC NV mk Wk ++ wM ae be a b2) 703 [.ref b, .ref (ad 0), .ref (ae 0), .int (nI i)] []) : XW p l e room_1 s m #[Value.ref b] below meth c 11 706 (lw_Z below #[Value.ref b] s) D (fun q : Nat => s.heap.size ≤ q) 4 (wX ad bd S C V NS NC NV mk Wk ++ wM ae be a b2) 290 [.ref b, .ref (ad 0), .ref (ae 0), .int (nI i)] [] := by
  refine x_aload_n K dL_law_290 rfl ?_
  refine x_aload_n K dL_law_291 rfl ?_
  refine x_iload_n K dL_law_292 rfl ?_
  refine x_iconst K (nI 1) dL_law_293 (by decide) ?_
  refine x_iaddN K dL_law_294 ?_
  refine x_sld K hX hbl hbA (by omega) (by omega) dL_law_295 ?_
  refine x_aload_n K dL_law_296 rfl ?_
  refine x_iload_n K dL_law_297 rfl ?_
  refine x_iconst K (nI 2) dL_law_298 (by decide) ?_
  refine x_iaddN K dL_law_299 ?_
  refine x_sld K hX hbl hbA (by omega) (by omega) dL_law_300 ?_
  refine x_callIL (n := 2) K hK1 (ctX_masked l (t := xs (i + 1)) (k := xs (i + 2)) hR) q121 q122 q123 q18 q124 (by decide +kernel) (by decide) (by decide) rfl rfl rfl rfl (Nat.le_of_ble_eq_true rfl) dL_law_301 (fun r1 u1 h1 => ?_)
  obtain ⟨S1, C1, V1, NS1, NC1, NV1, mk1, Wk1⟩ := u1
  obtain ⟨e1, hR1⟩ := h1
  refine x_aload_n K dL_law_304 rfl ?_
  refine x_aload_n K dL_law_305 rfl ?_
  refine x_iload_n K dL_law_306 rfl ?_
  refine x_iconst K (nI 1) dL_law_307 (by decide) ?_
  refine x_iaddN K dL_law_308 ?_
  refine x_sld K hX hbl hbA (by omega) (by omega) dL_law_309 ?_
  refine x_aload_n K dL_law_310 rfl ?_
  refine x_iload_n K dL_law_311 rfl ?_
  refine x_iconst K (nI 2) dL_law_312 (by decide) ?_
  refine x_iaddN K dL_law_313 ?_
  refine x_sld K hX hbl hbA (by omega) (by omega) dL_law_314 ?_
  refine x_callIR (n := 2) K hK2 (ctM_masked l (t := xs (i + 1)) (y := xs (i + 2))) q222 q223 q224 q19 q225 (by decide +kernel) (by decide) (by decide) rfl rfl rfl rfl (Nat.le_of_ble_eq_true rfl) dL_law_315 (fun r2 u2 h2 => ?_)
  obtain ⟨a3, b3⟩ := u2
  obtain ⟨e2, h3⟩ := h2
  refine x_cmp_eq K 703 dL_law_318 (by decide) (fun _ => ?_) (fun q => absurd (e1.trans e2.symm) q)
  exact ih S1 C1 V1 NS1 NC1 NV1 mk1 Wk1 a3 b3 (by rw [show a3 = _ from h3]; exact hR1)
set_option maxHeartbeats 4000000 in
/-- the law, case 5: transpose -/
theorem law_transpose {p : Program} {e : Env} {s : State} {m : MethodId} {below : List Frame} {meth : Method} {c : Code} (l : Launch) {b L : Nat} {xs : Nat → Int32} (hL : L ≤ 320) (hX : va_X b L xs s s.heap) (hbl : b < s.heap.size) (hbA : ¬ s.heap.size ≤ b) {D : va_G} {ad ae : Nat → Nat} {bd be : Nat → ClassId} (hK1 : va_K D vwCl (tyX bd) s) (hK2 : va_K D vwCl (tyM be) s) (K : XC p room_1 s m #[Value.ref b] c 11 706 D (fun q : Nat => s.heap.size ≤ q) (tyX bd) 4 cL_law R_law 5) {i : Nat} {S C V NS NC NV : Nat → Int32} {mk : Nat} {Wk a b2 : Nat → Int32} (hi : i + 5 ≤ L) (hR : Rep S C V a)
    (ih : ∀ (S C V NS NC NV : Nat → Int32) (mk : Nat) (Wk a b2 : Nat → Int32), Rep S C V a → XW p l e room_1 s m #[Value.ref b] below meth c 11 706 (lw_Z below #[Value.ref b] s) D (fun q : Nat => s.heap.size ≤ q) 4 (wX ad bd S C V NS NC NV mk Wk ++ wM ae be a b2) 703 [.ref b, .ref (ad 0), .ref (ae 0), .int (nI i)] []) : XW p l e room_1 s m #[Value.ref b] below meth c 11 706 (lw_Z below #[Value.ref b] s) D (fun q : Nat => s.heap.size ≤ q) 4 (wX ad bd S C V NS NC NV mk Wk ++ wM ae be a b2) 323 [.ref b, .ref (ad 0), .ref (ae 0), .int (nI i)] [] := by
  refine x_aload_n K dL_law_323 rfl ?_
  refine x_aload_n K dL_law_324 rfl ?_
  refine x_iload_n K dL_law_325 rfl ?_
  refine x_iconst K (nI 1) dL_law_326 (by decide) ?_
  refine x_iaddN K dL_law_327 ?_
  refine x_sld K hX hbl hbA (by omega) (by omega) dL_law_328 ?_
  refine x_aload_n K dL_law_329 rfl ?_
  refine x_iload_n K dL_law_330 rfl ?_
  refine x_iconst K (nI 2) dL_law_331 (by decide) ?_
  refine x_iaddN K dL_law_332 ?_
  refine x_sld K hX hbl hbA (by omega) (by omega) dL_law_333 ?_
  refine x_callIL (n := 2) K hK1 (ctX_transpose l (t := xs (i + 1)) (x := xs (i + 2)) hR) q125 q126 q127 q18 q128 (by decide +kernel) (by decide) (by decide) rfl rfl rfl rfl (Nat.le_of_ble_eq_true rfl) dL_law_334 (fun r1 u1 h1 => ?_)
  obtain ⟨S1, C1, V1, NS1, NC1, NV1, mk1, Wk1⟩ := u1
  obtain ⟨e1, hR1⟩ := h1
  refine x_aload_n K dL_law_337 rfl ?_
  refine x_aload_n K dL_law_338 rfl ?_
  refine x_iload_n K dL_law_339 rfl ?_
  refine x_iconst K (nI 1) dL_law_340 (by decide) ?_
  refine x_iaddN K dL_law_341 ?_
  refine x_sld K hX hbl hbA (by omega) (by omega) dL_law_342 ?_
  refine x_aload_n K dL_law_343 rfl ?_
  refine x_iload_n K dL_law_344 rfl ?_
  refine x_iconst K (nI 2) dL_law_345 (by decide) ?_
  refine x_iaddN K dL_law_346 ?_
  refine x_sld K hX hbl hbA (by omega) (by omega) dL_law_347 ?_
  refine x_callIR (n := 2) K hK2 (ctM_transpose l (t := xs (i + 1)) (x := xs (i + 2))) q226 q227 q228 q19 q229 (by decide +kernel) (by decide) (by decide) rfl rfl rfl rfl (Nat.le_of_ble_eq_true rfl) dL_law_348 (fun r2 u2 h2 => ?_)
  obtain ⟨a3, b3⟩ := u2
  obtain ⟨e2, h3⟩ := h2
  refine x_cmp_eq K 703 dL_law_351 (by decide) (fun _ => ?_) (fun q => absurd (e1.trans e2.symm) q)
  exact ih S1 C1 V1 NS1 NC1 NV1 mk1 Wk1 a3 b3 (by rw [show a3 = _ from h3]; exact hR1)
set_option maxHeartbeats 4000000 in
/-- the law, case 6: scale -/
theorem law_scale {p : Program} {e : Env} {s : State} {m : MethodId} {below : List Frame} {meth : Method} {c : Code} (l : Launch) {b L : Nat} {xs : Nat → Int32} (hL : L ≤ 320) (hX : va_X b L xs s s.heap) (hbl : b < s.heap.size) (hbA : ¬ s.heap.size ≤ b) {D : va_G} {ad ae : Nat → Nat} {bd be : Nat → ClassId} (hK1 : va_K D vwCl (tyX bd) s) (hK2 : va_K D vwCl (tyM be) s) (K : XC p room_1 s m #[Value.ref b] c 11 706 D (fun q : Nat => s.heap.size ≤ q) (tyX bd) 4 cL_law R_law 5) {i : Nat} {S C V NS NC NV : Nat → Int32} {mk : Nat} {Wk a b2 : Nat → Int32} (hi : i + 5 ≤ L) (hR : Rep S C V a)
    (ih : ∀ (S C V NS NC NV : Nat → Int32) (mk : Nat) (Wk a b2 : Nat → Int32), Rep S C V a → XW p l e room_1 s m #[Value.ref b] below meth c 11 706 (lw_Z below #[Value.ref b] s) D (fun q : Nat => s.heap.size ≤ q) 4 (wX ad bd S C V NS NC NV mk Wk ++ wM ae be a b2) 703 [.ref b, .ref (ad 0), .ref (ae 0), .int (nI i)] []) : XW p l e room_1 s m #[Value.ref b] below meth c 11 706 (lw_Z below #[Value.ref b] s) D (fun q : Nat => s.heap.size ≤ q) 4 (wX ad bd S C V NS NC NV mk Wk ++ wM ae be a b2) 356 [.ref b, .ref (ad 0), .ref (ae 0), .int (nI i)] [] := by
  refine x_aload_n K dL_law_356 rfl ?_
  refine x_aload_n K dL_law_357 rfl ?_
  refine x_iload_n K dL_law_358 rfl ?_
  refine x_iconst K (nI 1) dL_law_359 (by decide) ?_
  refine x_iaddN K dL_law_360 ?_
  refine x_sld K hX hbl hbA (by omega) (by omega) dL_law_361 ?_
  refine x_aload_n K dL_law_362 rfl ?_
  refine x_iload_n K dL_law_363 rfl ?_
  refine x_iconst K (nI 2) dL_law_364 (by decide) ?_
  refine x_iaddN K dL_law_365 ?_
  refine x_sld K hX hbl hbA (by omega) (by omega) dL_law_366 ?_
  refine x_aload_n K dL_law_367 rfl ?_
  refine x_iload_n K dL_law_368 rfl ?_
  refine x_iconst K (nI 3) dL_law_369 (by decide) ?_
  refine x_iaddN K dL_law_370 ?_
  refine x_sld K hX hbl hbA (by omega) (by omega) dL_law_371 ?_
  refine x_callIL (n := 3) K hK1 (ctX_scale l (t := xs (i + 1)) (x := xs (i + 2)) (k := xs (i + 3)) hR) q133 q134 q135 q18 q136 (by decide +kernel) (by decide) (by decide) rfl rfl rfl rfl (Nat.le_of_ble_eq_true rfl) dL_law_372 (fun r1 u1 h1 => ?_)
  obtain ⟨S1, C1, V1, NS1, NC1, NV1, mk1, Wk1⟩ := u1
  obtain ⟨e1, hR1⟩ := h1
  refine x_aload_n K dL_law_375 rfl ?_
  refine x_aload_n K dL_law_376 rfl ?_
  refine x_iload_n K dL_law_377 rfl ?_
  refine x_iconst K (nI 1) dL_law_378 (by decide) ?_
  refine x_iaddN K dL_law_379 ?_
  refine x_sld K hX hbl hbA (by omega) (by omega) dL_law_380 ?_
  refine x_aload_n K dL_law_381 rfl ?_
  refine x_iload_n K dL_law_382 rfl ?_
  refine x_iconst K (nI 2) dL_law_383 (by decide) ?_
  refine x_iaddN K dL_law_384 ?_
  refine x_sld K hX hbl hbA (by omega) (by omega) dL_law_385 ?_
  refine x_aload_n K dL_law_386 rfl ?_
  refine x_iload_n K dL_law_387 rfl ?_
  refine x_iconst K (nI 3) dL_law_388 (by decide) ?_
  refine x_iaddN K dL_law_389 ?_
  refine x_sld K hX hbl hbA (by omega) (by omega) dL_law_390 ?_
  refine x_callIR (n := 3) K hK2 (ctM_scale l (t := xs (i + 1)) (x := xs (i + 2)) (y := xs (i + 3))) q230 q231 q232 q19 q233 (by decide +kernel) (by decide) (by decide) rfl rfl rfl rfl (Nat.le_of_ble_eq_true rfl) dL_law_391 (fun r2 u2 h2 => ?_)
  obtain ⟨a3, b3⟩ := u2
  obtain ⟨e2, h3⟩ := h2
  refine x_cmp_eq K 703 dL_law_394 (by decide) (fun _ => ?_) (fun q => absurd (e1.trans e2.symm) q)
  exact ih S1 C1 V1 NS1 NC1 NV1 mk1 Wk1 a3 b3 (by rw [show a3 = _ from h3]; exact hR1)
set_option maxHeartbeats 4000000 in
/-- the law, case 7: select -/
theorem law_select {p : Program} {e : Env} {s : State} {m : MethodId} {below : List Frame} {meth : Method} {c : Code} (l : Launch) {b L : Nat} {xs : Nat → Int32} (hL : L ≤ 320) (hX : va_X b L xs s s.heap) (hbl : b < s.heap.size) (hbA : ¬ s.heap.size ≤ b) {D : va_G} {ad ae : Nat → Nat} {bd be : Nat → ClassId} (hK1 : va_K D vwCl (tyX bd) s) (hK2 : va_K D vwCl (tyM be) s) (K : XC p room_1 s m #[Value.ref b] c 11 706 D (fun q : Nat => s.heap.size ≤ q) (tyX bd) 4 cL_law R_law 5) {i : Nat} {S C V NS NC NV : Nat → Int32} {mk : Nat} {Wk a b2 : Nat → Int32} (hi : i + 5 ≤ L) (hR : Rep S C V a)
    (ih : ∀ (S C V NS NC NV : Nat → Int32) (mk : Nat) (Wk a b2 : Nat → Int32), Rep S C V a → XW p l e room_1 s m #[Value.ref b] below meth c 11 706 (lw_Z below #[Value.ref b] s) D (fun q : Nat => s.heap.size ≤ q) 4 (wX ad bd S C V NS NC NV mk Wk ++ wM ae be a b2) 703 [.ref b, .ref (ad 0), .ref (ae 0), .int (nI i)] []) : XW p l e room_1 s m #[Value.ref b] below meth c 11 706 (lw_Z below #[Value.ref b] s) D (fun q : Nat => s.heap.size ≤ q) 4 (wX ad bd S C V NS NC NV mk Wk ++ wM ae be a b2) 399 [.ref b, .ref (ad 0), .ref (ae 0), .int (nI i)] [] := by
  refine x_aload_n K dL_law_399 rfl ?_
  refine x_aload_n K dL_law_400 rfl ?_
  refine x_iload_n K dL_law_401 rfl ?_
  refine x_iconst K (nI 1) dL_law_402 (by decide) ?_
  refine x_iaddN K dL_law_403 ?_
  refine x_sld K hX hbl hbA (by omega) (by omega) dL_law_404 ?_
  refine x_aload_n K dL_law_405 rfl ?_
  refine x_iload_n K dL_law_406 rfl ?_
  refine x_iconst K (nI 2) dL_law_407 (by decide) ?_
  refine x_iaddN K dL_law_408 ?_
  refine x_sld K hX hbl hbA (by omega) (by omega) dL_law_409 ?_
  refine x_aload_n K dL_law_410 rfl ?_
  refine x_iload_n K dL_law_411 rfl ?_
  refine x_iconst K (nI 3) dL_law_412 (by decide) ?_
  refine x_iaddN K dL_law_413 ?_
  refine x_sld K hX hbl hbA (by omega) (by omega) dL_law_414 ?_
  refine x_callIL (n := 3) K hK1 (ctX_select l (t := xs (i + 1)) (x := xs (i + 2)) (k := xs (i + 3)) hR) q137 q138 q139 q18 q140 (by decide +kernel) (by decide) (by decide) rfl rfl rfl rfl (Nat.le_of_ble_eq_true rfl) dL_law_415 (fun r1 u1 h1 => ?_)
  obtain ⟨S1, C1, V1, NS1, NC1, NV1, mk1, Wk1⟩ := u1
  obtain ⟨e1, hR1⟩ := h1
  refine x_aload_n K dL_law_418 rfl ?_
  refine x_aload_n K dL_law_419 rfl ?_
  refine x_iload_n K dL_law_420 rfl ?_
  refine x_iconst K (nI 1) dL_law_421 (by decide) ?_
  refine x_iaddN K dL_law_422 ?_
  refine x_sld K hX hbl hbA (by omega) (by omega) dL_law_423 ?_
  refine x_aload_n K dL_law_424 rfl ?_
  refine x_iload_n K dL_law_425 rfl ?_
  refine x_iconst K (nI 2) dL_law_426 (by decide) ?_
  refine x_iaddN K dL_law_427 ?_
  refine x_sld K hX hbl hbA (by omega) (by omega) dL_law_428 ?_
  refine x_aload_n K dL_law_429 rfl ?_
  refine x_iload_n K dL_law_430 rfl ?_
  refine x_iconst K (nI 3) dL_law_431 (by decide) ?_
  refine x_iaddN K dL_law_432 ?_
  refine x_sld K hX hbl hbA (by omega) (by omega) dL_law_433 ?_
  refine x_callIR (n := 3) K hK2 (ctM_select l (t := xs (i + 1)) (x := xs (i + 2)) (y := xs (i + 3))) q234 q235 q236 q19 q237 (by decide +kernel) (by decide) (by decide) rfl rfl rfl rfl (Nat.le_of_ble_eq_true rfl) dL_law_434 (fun r2 u2 h2 => ?_)
  obtain ⟨a3, b3⟩ := u2
  obtain ⟨e2, h3⟩ := h2
  refine x_cmp_eq K 703 dL_law_437 (by decide) (fun _ => ?_) (fun q => absurd (e1.trans e2.symm) q)
  exact ih S1 C1 V1 NS1 NC1 NV1 mk1 Wk1 a3 b3 (by rw [show a3 = _ from h3]; exact hR1)
set_option maxHeartbeats 4000000 in
/-- the law, case 8: at -/
theorem law_at {p : Program} {e : Env} {s : State} {m : MethodId} {below : List Frame} {meth : Method} {c : Code} (l : Launch) {b L : Nat} {xs : Nat → Int32} (hL : L ≤ 320) (hX : va_X b L xs s s.heap) (hbl : b < s.heap.size) (hbA : ¬ s.heap.size ≤ b) {D : va_G} {ad ae : Nat → Nat} {bd be : Nat → ClassId} (hK1 : va_K D vwCl (tyX bd) s) (hK2 : va_K D vwCl (tyM be) s) (K : XC p room_1 s m #[Value.ref b] c 11 706 D (fun q : Nat => s.heap.size ≤ q) (tyX bd) 4 cL_law R_law 5) {i : Nat} {S C V NS NC NV : Nat → Int32} {mk : Nat} {Wk a b2 : Nat → Int32} (hi : i + 5 ≤ L) (hR : Rep S C V a)
    (ih : ∀ (S C V NS NC NV : Nat → Int32) (mk : Nat) (Wk a b2 : Nat → Int32), Rep S C V a → XW p l e room_1 s m #[Value.ref b] below meth c 11 706 (lw_Z below #[Value.ref b] s) D (fun q : Nat => s.heap.size ≤ q) 4 (wX ad bd S C V NS NC NV mk Wk ++ wM ae be a b2) 703 [.ref b, .ref (ad 0), .ref (ae 0), .int (nI i)] []) : XW p l e room_1 s m #[Value.ref b] below meth c 11 706 (lw_Z below #[Value.ref b] s) D (fun q : Nat => s.heap.size ≤ q) 4 (wX ad bd S C V NS NC NV mk Wk ++ wM ae be a b2) 442 [.ref b, .ref (ad 0), .ref (ae 0), .int (nI i)] [] := by
  refine x_aload_n K dL_law_442 rfl ?_
  refine x_aload_n K dL_law_443 rfl ?_
  refine x_iload_n K dL_law_444 rfl ?_
  refine x_iconst K (nI 1) dL_law_445 (by decide) ?_
  refine x_iaddN K dL_law_446 ?_
  refine x_sld K hX hbl hbA (by omega) (by omega) dL_law_447 ?_
  refine x_aload_n K dL_law_448 rfl ?_
  refine x_iload_n K dL_law_449 rfl ?_
  refine x_iconst K (nI 2) dL_law_450 (by decide) ?_
  refine x_iaddN K dL_law_451 ?_
  refine x_sld K hX hbl hbA (by omega) (by omega) dL_law_452 ?_
  refine x_aload_n K dL_law_453 rfl ?_
  refine x_iload_n K dL_law_454 rfl ?_
  refine x_iconst K (nI 3) dL_law_455 (by decide) ?_
  refine x_iaddN K dL_law_456 ?_
  refine x_sld K hX hbl hbA (by omega) (by omega) dL_law_457 ?_
  refine x_callIL (n := 3) K hK1 (ctX_at l (t := xs (i + 1)) (x := xs (i + 2)) (y := xs (i + 3)) hR) q141 q142 q143 q18 q144 (by decide +kernel) (by decide) (by decide) rfl rfl rfl rfl (Nat.le_of_ble_eq_true rfl) dL_law_458 (fun r1 u1 h1 => ?_)
  have e1 := h1
  refine x_aload_n K dL_law_461 rfl ?_
  refine x_aload_n K dL_law_462 rfl ?_
  refine x_iload_n K dL_law_463 rfl ?_
  refine x_iconst K (nI 1) dL_law_464 (by decide) ?_
  refine x_iaddN K dL_law_465 ?_
  refine x_sld K hX hbl hbA (by omega) (by omega) dL_law_466 ?_
  refine x_aload_n K dL_law_467 rfl ?_
  refine x_iload_n K dL_law_468 rfl ?_
  refine x_iconst K (nI 2) dL_law_469 (by decide) ?_
  refine x_iaddN K dL_law_470 ?_
  refine x_sld K hX hbl hbA (by omega) (by omega) dL_law_471 ?_
  refine x_aload_n K dL_law_472 rfl ?_
  refine x_iload_n K dL_law_473 rfl ?_
  refine x_iconst K (nI 3) dL_law_474 (by decide) ?_
  refine x_iaddN K dL_law_475 ?_
  refine x_sld K hX hbl hbA (by omega) (by omega) dL_law_476 ?_
  refine x_callIR (n := 3) K hK2 (ctM_at l (t := xs (i + 1)) (x := xs (i + 2)) (y := xs (i + 3))) q238 q239 q240 q19 q241 (by decide +kernel) (by decide) (by decide) rfl rfl rfl rfl (Nat.le_of_ble_eq_true rfl) dL_law_477 (fun r2 u2 h2 => ?_)
  have e2 := h2
  refine x_cmp_eq K 703 dL_law_480 (by decide) (fun _ => ?_) (fun q => absurd (e1.trans e2.symm) q)
  exact ih S C V NS NC NV mk Wk a b2 hR
set_option maxHeartbeats 4000000 in
/-- the law, case 9: count -/
theorem law_count {p : Program} {e : Env} {s : State} {m : MethodId} {below : List Frame} {meth : Method} {c : Code} (l : Launch) {b L : Nat} {xs : Nat → Int32} (hL : L ≤ 320) (hX : va_X b L xs s s.heap) (hbl : b < s.heap.size) (hbA : ¬ s.heap.size ≤ b) {D : va_G} {ad ae : Nat → Nat} {bd be : Nat → ClassId} (hK1 : va_K D vwCl (tyX bd) s) (hK2 : va_K D vwCl (tyM be) s) (K : XC p room_1 s m #[Value.ref b] c 11 706 D (fun q : Nat => s.heap.size ≤ q) (tyX bd) 4 cL_law R_law 5) {i : Nat} {S C V NS NC NV : Nat → Int32} {mk : Nat} {Wk a b2 : Nat → Int32} (hi : i + 5 ≤ L) (hR : Rep S C V a)
    (ih : ∀ (S C V NS NC NV : Nat → Int32) (mk : Nat) (Wk a b2 : Nat → Int32), Rep S C V a → XW p l e room_1 s m #[Value.ref b] below meth c 11 706 (lw_Z below #[Value.ref b] s) D (fun q : Nat => s.heap.size ≤ q) 4 (wX ad bd S C V NS NC NV mk Wk ++ wM ae be a b2) 703 [.ref b, .ref (ad 0), .ref (ae 0), .int (nI i)] []) : XW p l e room_1 s m #[Value.ref b] below meth c 11 706 (lw_Z below #[Value.ref b] s) D (fun q : Nat => s.heap.size ≤ q) 4 (wX ad bd S C V NS NC NV mk Wk ++ wM ae be a b2) 485 [.ref b, .ref (ad 0), .ref (ae 0), .int (nI i)] [] := by
  refine x_aload_n K dL_law_485 rfl ?_
  refine x_aload_n K dL_law_486 rfl ?_
  refine x_iload_n K dL_law_487 rfl ?_
  refine x_iconst K (nI 1) dL_law_488 (by decide) ?_
  refine x_iaddN K dL_law_489 ?_
  refine x_sld K hX hbl hbA (by omega) (by omega) dL_law_490 ?_
  refine x_callIL (n := 1) K hK1 (ctX_count l (t := xs (i + 1)) hR) q145 q146 q147 q18 q148 (by decide +kernel) (by decide) (by decide) rfl rfl rfl rfl (Nat.le_of_ble_eq_true rfl) dL_law_491 (fun r1 u1 h1 => ?_)
  have e1 := h1
  refine x_aload_n K dL_law_494 rfl ?_
  refine x_aload_n K dL_law_495 rfl ?_
  refine x_iload_n K dL_law_496 rfl ?_
  refine x_iconst K (nI 1) dL_law_497 (by decide) ?_
  refine x_iaddN K dL_law_498 ?_
  refine x_sld K hX hbl hbA (by omega) (by omega) dL_law_499 ?_
  refine x_callIR (n := 1) K hK2 (ctM_count l (t := xs (i + 1))) q242 q203 q204 q19 q205 (by decide +kernel) (by decide) (by decide) rfl rfl rfl rfl (Nat.le_of_ble_eq_true rfl) dL_law_500 (fun r2 u2 h2 => ?_)
  have e2 := h2
  refine x_cmp_eq K 703 dL_law_503 (by decide) (fun _ => ?_) (fun q => absurd (e1.trans e2.symm) q)
  exact ih S C V NS NC NV mk Wk a b2 hR
set_option maxHeartbeats 4000000 in
/-- the law, case 10: next -/
theorem law_next {p : Program} {e : Env} {s : State} {m : MethodId} {below : List Frame} {meth : Method} {c : Code} (l : Launch) {b L : Nat} {xs : Nat → Int32} (hL : L ≤ 320) (hX : va_X b L xs s s.heap) (hbl : b < s.heap.size) (hbA : ¬ s.heap.size ≤ b) {D : va_G} {ad ae : Nat → Nat} {bd be : Nat → ClassId} (hK1 : va_K D vwCl (tyX bd) s) (hK2 : va_K D vwCl (tyM be) s) (K : XC p room_1 s m #[Value.ref b] c 11 706 D (fun q : Nat => s.heap.size ≤ q) (tyX bd) 4 cL_law R_law 5) {i : Nat} {S C V NS NC NV : Nat → Int32} {mk : Nat} {Wk a b2 : Nat → Int32} (hi : i + 5 ≤ L) (hR : Rep S C V a)
    (ih : ∀ (S C V NS NC NV : Nat → Int32) (mk : Nat) (Wk a b2 : Nat → Int32), Rep S C V a → XW p l e room_1 s m #[Value.ref b] below meth c 11 706 (lw_Z below #[Value.ref b] s) D (fun q : Nat => s.heap.size ≤ q) 4 (wX ad bd S C V NS NC NV mk Wk ++ wM ae be a b2) 703 [.ref b, .ref (ad 0), .ref (ae 0), .int (nI i)] []) : XW p l e room_1 s m #[Value.ref b] below meth c 11 706 (lw_Z below #[Value.ref b] s) D (fun q : Nat => s.heap.size ≤ q) 4 (wX ad bd S C V NS NC NV mk Wk ++ wM ae be a b2) 508 [.ref b, .ref (ad 0), .ref (ae 0), .int (nI i)] [] := by
  refine x_aload_n K dL_law_508 rfl ?_
  refine x_aload_n K dL_law_509 rfl ?_
  refine x_iload_n K dL_law_510 rfl ?_
  refine x_iconst K (nI 1) dL_law_511 (by decide) ?_
  refine x_iaddN K dL_law_512 ?_
  refine x_sld K hX hbl hbA (by omega) (by omega) dL_law_513 ?_
  refine x_aload_n K dL_law_514 rfl ?_
  refine x_iload_n K dL_law_515 rfl ?_
  refine x_iconst K (nI 2) dL_law_516 (by decide) ?_
  refine x_iaddN K dL_law_517 ?_
  refine x_sld K hX hbl hbA (by omega) (by omega) dL_law_518 ?_
  refine x_aload_n K dL_law_519 rfl ?_
  refine x_iload_n K dL_law_520 rfl ?_
  refine x_iconst K (nI 3) dL_law_521 (by decide) ?_
  refine x_iaddN K dL_law_522 ?_
  refine x_sld K hX hbl hbA (by omega) (by omega) dL_law_523 ?_
  refine x_callIL (n := 3) K hK1 (ctX_next l (t := xs (i + 1)) (x := xs (i + 2)) (y := xs (i + 3)) hR) q149 q150 q151 q18 q152 (by decide +kernel) (by decide) (by decide) rfl rfl rfl rfl (Nat.le_of_ble_eq_true rfl) dL_law_524 (fun r1 u1 h1 => ?_)
  have e1 := h1
  refine x_aload_n K dL_law_527 rfl ?_
  refine x_aload_n K dL_law_528 rfl ?_
  refine x_iload_n K dL_law_529 rfl ?_
  refine x_iconst K (nI 1) dL_law_530 (by decide) ?_
  refine x_iaddN K dL_law_531 ?_
  refine x_sld K hX hbl hbA (by omega) (by omega) dL_law_532 ?_
  refine x_aload_n K dL_law_533 rfl ?_
  refine x_iload_n K dL_law_534 rfl ?_
  refine x_iconst K (nI 2) dL_law_535 (by decide) ?_
  refine x_iaddN K dL_law_536 ?_
  refine x_sld K hX hbl hbA (by omega) (by omega) dL_law_537 ?_
  refine x_aload_n K dL_law_538 rfl ?_
  refine x_iload_n K dL_law_539 rfl ?_
  refine x_iconst K (nI 3) dL_law_540 (by decide) ?_
  refine x_iaddN K dL_law_541 ?_
  refine x_sld K hX hbl hbA (by omega) (by omega) dL_law_542 ?_
  refine x_callIR (n := 3) K hK2 (ctM_next l (t := xs (i + 1)) (x := xs (i + 2)) (y := xs (i + 3))) q243 q244 q245 q19 q246 (by decide +kernel) (by decide) (by decide) rfl rfl rfl rfl (Nat.le_of_ble_eq_true rfl) dL_law_543 (fun r2 u2 h2 => ?_)
  have e2 := h2
  refine x_cmp_eq K 703 dL_law_546 (by decide) (fun _ => ?_) (fun q => absurd (e1.trans e2.symm) q)
  exact ih S C V NS NC NV mk Wk a b2 hR
set_option maxHeartbeats 4000000 in
/-- the law, case 11: rowsProduct -/
theorem law_rowsProduct {p : Program} {e : Env} {s : State} {m : MethodId} {below : List Frame} {meth : Method} {c : Code} (l : Launch) {b L : Nat} {xs : Nat → Int32} (hL : L ≤ 320) (hX : va_X b L xs s s.heap) (hbl : b < s.heap.size) (hbA : ¬ s.heap.size ≤ b) {D : va_G} {ad ae : Nat → Nat} {bd be : Nat → ClassId} (hK1 : va_K D vwCl (tyX bd) s) (hK2 : va_K D vwCl (tyM be) s) (K : XC p room_1 s m #[Value.ref b] c 11 706 D (fun q : Nat => s.heap.size ≤ q) (tyX bd) 4 cL_law R_law 5) {i : Nat} {S C V NS NC NV : Nat → Int32} {mk : Nat} {Wk a b2 : Nat → Int32} (hi : i + 5 ≤ L) (hR : Rep S C V a)
    (ih : ∀ (S C V NS NC NV : Nat → Int32) (mk : Nat) (Wk a b2 : Nat → Int32), Rep S C V a → XW p l e room_1 s m #[Value.ref b] below meth c 11 706 (lw_Z below #[Value.ref b] s) D (fun q : Nat => s.heap.size ≤ q) 4 (wX ad bd S C V NS NC NV mk Wk ++ wM ae be a b2) 703 [.ref b, .ref (ad 0), .ref (ae 0), .int (nI i)] []) : XW p l e room_1 s m #[Value.ref b] below meth c 11 706 (lw_Z below #[Value.ref b] s) D (fun q : Nat => s.heap.size ≤ q) 4 (wX ad bd S C V NS NC NV mk Wk ++ wM ae be a b2) 551 [.ref b, .ref (ad 0), .ref (ae 0), .int (nI i)] [] := by
  refine x_aload_n K dL_law_551 rfl ?_
  refine x_aload_n K dL_law_552 rfl ?_
  refine x_iload_n K dL_law_553 rfl ?_
  refine x_iconst K (nI 1) dL_law_554 (by decide) ?_
  refine x_iaddN K dL_law_555 ?_
  refine x_sld K hX hbl hbA (by omega) (by omega) dL_law_556 ?_
  refine x_aload_n K dL_law_557 rfl ?_
  refine x_iload_n K dL_law_558 rfl ?_
  refine x_iconst K (nI 2) dL_law_559 (by decide) ?_
  refine x_iaddN K dL_law_560 ?_
  refine x_sld K hX hbl hbA (by omega) (by omega) dL_law_561 ?_
  refine x_aload_n K dL_law_562 rfl ?_
  refine x_iload_n K dL_law_563 rfl ?_
  refine x_iconst K (nI 3) dL_law_564 (by decide) ?_
  refine x_iaddN K dL_law_565 ?_
  refine x_sld K hX hbl hbA (by omega) (by omega) dL_law_566 ?_
  refine x_aload_n K dL_law_567 rfl ?_
  refine x_iload_n K dL_law_568 rfl ?_
  refine x_iconst K (nI 4) dL_law_569 (by decide) ?_
  refine x_iaddN K dL_law_570 ?_
  refine x_sld K hX hbl hbA (by omega) (by omega) dL_law_571 ?_
  refine x_callIL (n := 4) K hK1 (ctX_rowsProduct l (t := xs (i + 1)) (x := xs (i + 2)) (q := xs (i + 3)) (y := xs (i + 4)) hR) q153 q154 q155 q18 q156 (by decide +kernel) (by decide) (by decide) rfl rfl rfl rfl (Nat.le_of_ble_eq_true rfl) dL_law_572 (fun r1 u1 h1 => ?_)
  have e1 := h1
  refine x_aload_n K dL_law_575 rfl ?_
  refine x_aload_n K dL_law_576 rfl ?_
  refine x_iload_n K dL_law_577 rfl ?_
  refine x_iconst K (nI 1) dL_law_578 (by decide) ?_
  refine x_iaddN K dL_law_579 ?_
  refine x_sld K hX hbl hbA (by omega) (by omega) dL_law_580 ?_
  refine x_aload_n K dL_law_581 rfl ?_
  refine x_iload_n K dL_law_582 rfl ?_
  refine x_iconst K (nI 2) dL_law_583 (by decide) ?_
  refine x_iaddN K dL_law_584 ?_
  refine x_sld K hX hbl hbA (by omega) (by omega) dL_law_585 ?_
  refine x_aload_n K dL_law_586 rfl ?_
  refine x_iload_n K dL_law_587 rfl ?_
  refine x_iconst K (nI 3) dL_law_588 (by decide) ?_
  refine x_iaddN K dL_law_589 ?_
  refine x_sld K hX hbl hbA (by omega) (by omega) dL_law_590 ?_
  refine x_aload_n K dL_law_591 rfl ?_
  refine x_iload_n K dL_law_592 rfl ?_
  refine x_iconst K (nI 4) dL_law_593 (by decide) ?_
  refine x_iaddN K dL_law_594 ?_
  refine x_sld K hX hbl hbA (by omega) (by omega) dL_law_595 ?_
  refine x_callIR (n := 4) K hK2 (ctM_rowsProduct l (t := xs (i + 1)) (x := xs (i + 2)) (q := xs (i + 3)) (y := xs (i + 4))) q247 q248 q249 q19 q250 (by decide +kernel) (by decide) (by decide) rfl rfl rfl rfl (Nat.le_of_ble_eq_true rfl) dL_law_596 (fun r2 u2 h2 => ?_)
  have e2 := h2
  refine x_cmp_eq K 703 dL_law_599 (by decide) (fun _ => ?_) (fun q => absurd (e1.trans e2.symm) q)
  exact ih S C V NS NC NV mk Wk a b2 hR
set_option maxHeartbeats 4000000 in
/-- the law, case 12: sum -/
theorem law_sum {p : Program} {e : Env} {s : State} {m : MethodId} {below : List Frame} {meth : Method} {c : Code} (l : Launch) {b L : Nat} {xs : Nat → Int32} (hL : L ≤ 320) (hX : va_X b L xs s s.heap) (hbl : b < s.heap.size) (hbA : ¬ s.heap.size ≤ b) {D : va_G} {ad ae : Nat → Nat} {bd be : Nat → ClassId} (hK1 : va_K D vwCl (tyX bd) s) (hK2 : va_K D vwCl (tyM be) s) (K : XC p room_1 s m #[Value.ref b] c 11 706 D (fun q : Nat => s.heap.size ≤ q) (tyX bd) 4 cL_law R_law 5) {i : Nat} {S C V NS NC NV : Nat → Int32} {mk : Nat} {Wk a b2 : Nat → Int32} (hi : i + 5 ≤ L) (hR : Rep S C V a)
    (ih : ∀ (S C V NS NC NV : Nat → Int32) (mk : Nat) (Wk a b2 : Nat → Int32), Rep S C V a → XW p l e room_1 s m #[Value.ref b] below meth c 11 706 (lw_Z below #[Value.ref b] s) D (fun q : Nat => s.heap.size ≤ q) 4 (wX ad bd S C V NS NC NV mk Wk ++ wM ae be a b2) 703 [.ref b, .ref (ad 0), .ref (ae 0), .int (nI i)] []) : XW p l e room_1 s m #[Value.ref b] below meth c 11 706 (lw_Z below #[Value.ref b] s) D (fun q : Nat => s.heap.size ≤ q) 4 (wX ad bd S C V NS NC NV mk Wk ++ wM ae be a b2) 604 [.ref b, .ref (ad 0), .ref (ae 0), .int (nI i)] [] := by
  refine x_aload_n K dL_law_604 rfl ?_
  refine x_aload_n K dL_law_605 rfl ?_
  refine x_iload_n K dL_law_606 rfl ?_
  refine x_iconst K (nI 1) dL_law_607 (by decide) ?_
  refine x_iaddN K dL_law_608 ?_
  refine x_sld K hX hbl hbA (by omega) (by omega) dL_law_609 ?_
  refine x_aload_n K dL_law_610 rfl ?_
  refine x_iload_n K dL_law_611 rfl ?_
  refine x_iconst K (nI 2) dL_law_612 (by decide) ?_
  refine x_iaddN K dL_law_613 ?_
  refine x_sld K hX hbl hbA (by omega) (by omega) dL_law_614 ?_
  refine x_aload_n K dL_law_615 rfl ?_
  refine x_iload_n K dL_law_616 rfl ?_
  refine x_iconst K (nI 3) dL_law_617 (by decide) ?_
  refine x_iaddN K dL_law_618 ?_
  refine x_sld K hX hbl hbA (by omega) (by omega) dL_law_619 ?_
  refine x_callIL (n := 3) K hK1 (ctX_sum l (t := xs (i + 1)) (x := xs (i + 2)) (y := xs (i + 3)) hR) q157 q158 q159 q18 q160 (by decide +kernel) (by decide) (by decide) rfl rfl rfl rfl (Nat.le_of_ble_eq_true rfl) dL_law_620 (fun r1 u1 h1 => ?_)
  have e1 := h1
  refine x_aload_n K dL_law_623 rfl ?_
  refine x_aload_n K dL_law_624 rfl ?_
  refine x_iload_n K dL_law_625 rfl ?_
  refine x_iconst K (nI 1) dL_law_626 (by decide) ?_
  refine x_iaddN K dL_law_627 ?_
  refine x_sld K hX hbl hbA (by omega) (by omega) dL_law_628 ?_
  refine x_aload_n K dL_law_629 rfl ?_
  refine x_iload_n K dL_law_630 rfl ?_
  refine x_iconst K (nI 2) dL_law_631 (by decide) ?_
  refine x_iaddN K dL_law_632 ?_
  refine x_sld K hX hbl hbA (by omega) (by omega) dL_law_633 ?_
  refine x_aload_n K dL_law_634 rfl ?_
  refine x_iload_n K dL_law_635 rfl ?_
  refine x_iconst K (nI 3) dL_law_636 (by decide) ?_
  refine x_iaddN K dL_law_637 ?_
  refine x_sld K hX hbl hbA (by omega) (by omega) dL_law_638 ?_
  refine x_callIR (n := 3) K hK2 (ctM_sum l (t := xs (i + 1)) (x := xs (i + 2)) (y := xs (i + 3))) q251 q252 q253 q19 q254 (by decide +kernel) (by decide) (by decide) rfl rfl rfl rfl (Nat.le_of_ble_eq_true rfl) dL_law_639 (fun r2 u2 h2 => ?_)
  have e2 := h2
  refine x_cmp_eq K 703 dL_law_642 (by decide) (fun _ => ?_) (fun q => absurd (e1.trans e2.symm) q)
  exact ih S C V NS NC NV mk Wk a b2 hR
set_option maxHeartbeats 4000000 in
/-- the law, case 13: same -/
theorem law_same {p : Program} {e : Env} {s : State} {m : MethodId} {below : List Frame} {meth : Method} {c : Code} (l : Launch) {b L : Nat} {xs : Nat → Int32} (hL : L ≤ 320) (hX : va_X b L xs s s.heap) (hbl : b < s.heap.size) (hbA : ¬ s.heap.size ≤ b) {D : va_G} {ad ae : Nat → Nat} {bd be : Nat → ClassId} (hK1 : va_K D vwCl (tyX bd) s) (hK2 : va_K D vwCl (tyM be) s) (K : XC p room_1 s m #[Value.ref b] c 11 706 D (fun q : Nat => s.heap.size ≤ q) (tyX bd) 4 cL_law R_law 5) {i : Nat} {S C V NS NC NV : Nat → Int32} {mk : Nat} {Wk a b2 : Nat → Int32} (hi : i + 5 ≤ L) (hR : Rep S C V a)
    (ih : ∀ (S C V NS NC NV : Nat → Int32) (mk : Nat) (Wk a b2 : Nat → Int32), Rep S C V a → XW p l e room_1 s m #[Value.ref b] below meth c 11 706 (lw_Z below #[Value.ref b] s) D (fun q : Nat => s.heap.size ≤ q) 4 (wX ad bd S C V NS NC NV mk Wk ++ wM ae be a b2) 703 [.ref b, .ref (ad 0), .ref (ae 0), .int (nI i)] []) : XW p l e room_1 s m #[Value.ref b] below meth c 11 706 (lw_Z below #[Value.ref b] s) D (fun q : Nat => s.heap.size ≤ q) 4 (wX ad bd S C V NS NC NV mk Wk ++ wM ae be a b2) 647 [.ref b, .ref (ad 0), .ref (ae 0), .int (nI i)] [] := by
  refine x_aload_n K dL_law_647 rfl ?_
  refine x_aload_n K dL_law_648 rfl ?_
  refine x_iload_n K dL_law_649 rfl ?_
  refine x_iconst K (nI 1) dL_law_650 (by decide) ?_
  refine x_iaddN K dL_law_651 ?_
  refine x_sld K hX hbl hbA (by omega) (by omega) dL_law_652 ?_
  refine x_aload_n K dL_law_653 rfl ?_
  refine x_iload_n K dL_law_654 rfl ?_
  refine x_iconst K (nI 2) dL_law_655 (by decide) ?_
  refine x_iaddN K dL_law_656 ?_
  refine x_sld K hX hbl hbA (by omega) (by omega) dL_law_657 ?_
  refine x_callIL (n := 2) K hK1 (ctX_same l (x := xs (i + 1)) (y := xs (i + 2)) hR) q161 q162 q163 q18 q164 (by decide +kernel) (by decide) (by decide) rfl rfl rfl rfl (Nat.le_of_ble_eq_true rfl) dL_law_658 (fun r1 u1 h1 => ?_)
  have e1 := h1
  refine x_aload_n K dL_law_661 rfl ?_
  refine x_aload_n K dL_law_662 rfl ?_
  refine x_iload_n K dL_law_663 rfl ?_
  refine x_iconst K (nI 1) dL_law_664 (by decide) ?_
  refine x_iaddN K dL_law_665 ?_
  refine x_sld K hX hbl hbA (by omega) (by omega) dL_law_666 ?_
  refine x_aload_n K dL_law_667 rfl ?_
  refine x_iload_n K dL_law_668 rfl ?_
  refine x_iconst K (nI 2) dL_law_669 (by decide) ?_
  refine x_iaddN K dL_law_670 ?_
  refine x_sld K hX hbl hbA (by omega) (by omega) dL_law_671 ?_
  refine x_callIR (n := 2) K hK2 (ctM_same l (x := xs (i + 1)) (y := xs (i + 2))) q255 q256 q257 q19 q258 (by decide +kernel) (by decide) (by decide) rfl rfl rfl rfl (Nat.le_of_ble_eq_true rfl) dL_law_672 (fun r2 u2 h2 => ?_)
  have e2 := h2
  refine x_cmp_eq K 703 dL_law_675 (by decide) (fun _ => ?_) (fun q => absurd (e1.trans e2.symm) q)
  exact ih S C V NS NC NV mk Wk a b2 hR
set_option maxHeartbeats 4000000 in
/-- the law, case 14: symmetric -/
theorem law_symmetric {p : Program} {e : Env} {s : State} {m : MethodId} {below : List Frame} {meth : Method} {c : Code} (l : Launch) {b L : Nat} {xs : Nat → Int32} (hL : L ≤ 320) (hX : va_X b L xs s s.heap) (hbl : b < s.heap.size) (hbA : ¬ s.heap.size ≤ b) {D : va_G} {ad ae : Nat → Nat} {bd be : Nat → ClassId} (hK1 : va_K D vwCl (tyX bd) s) (hK2 : va_K D vwCl (tyM be) s) (K : XC p room_1 s m #[Value.ref b] c 11 706 D (fun q : Nat => s.heap.size ≤ q) (tyX bd) 4 cL_law R_law 5) {i : Nat} {S C V NS NC NV : Nat → Int32} {mk : Nat} {Wk a b2 : Nat → Int32} (hi : i + 5 ≤ L) (hR : Rep S C V a)
    (ih : ∀ (S C V NS NC NV : Nat → Int32) (mk : Nat) (Wk a b2 : Nat → Int32), Rep S C V a → XW p l e room_1 s m #[Value.ref b] below meth c 11 706 (lw_Z below #[Value.ref b] s) D (fun q : Nat => s.heap.size ≤ q) 4 (wX ad bd S C V NS NC NV mk Wk ++ wM ae be a b2) 703 [.ref b, .ref (ad 0), .ref (ae 0), .int (nI i)] []) : XW p l e room_1 s m #[Value.ref b] below meth c 11 706 (lw_Z below #[Value.ref b] s) D (fun q : Nat => s.heap.size ≤ q) 4 (wX ad bd S C V NS NC NV mk Wk ++ wM ae be a b2) 680 [.ref b, .ref (ad 0), .ref (ae 0), .int (nI i)] [] := by
  refine x_aload_n K dL_law_680 rfl ?_
  refine x_aload_n K dL_law_681 rfl ?_
  refine x_iload_n K dL_law_682 rfl ?_
  refine x_iconst K (nI 1) dL_law_683 (by decide) ?_
  refine x_iaddN K dL_law_684 ?_
  refine x_sld K hX hbl hbA (by omega) (by omega) dL_law_685 ?_
  refine x_callIL (n := 1) K hK1 (ctX_symmetric l (t := xs (i + 1)) hR) q165 q166 q167 q18 q168 (by decide +kernel) (by decide) (by decide) rfl rfl rfl rfl (Nat.le_of_ble_eq_true rfl) dL_law_686 (fun r1 u1 h1 => ?_)
  have e1 := h1
  refine x_aload_n K dL_law_689 rfl ?_
  refine x_aload_n K dL_law_690 rfl ?_
  refine x_iload_n K dL_law_691 rfl ?_
  refine x_iconst K (nI 1) dL_law_692 (by decide) ?_
  refine x_iaddN K dL_law_693 ?_
  refine x_sld K hX hbl hbA (by omega) (by omega) dL_law_694 ?_
  refine x_callIR (n := 1) K hK2 (ctM_symmetric l (t := xs (i + 1))) q259 q260 q261 q19 q262 (by decide +kernel) (by decide) (by decide) rfl rfl rfl rfl (Nat.le_of_ble_eq_true rfl) dL_law_695 (fun r2 u2 h2 => ?_)
  have e2 := h2
  refine x_cmp_eq K 703 dL_law_698 (by decide) (fun _ => ?_) (fun q => absurd (e1.trans e2.symm) q)
  exact ih S C V NS NC NV mk Wk a b2 hR
set_option maxHeartbeats 4000000 in
/-- the law at its loop's head -/
theorem law_loop {p : Program} {e : Env} {s : State} {m : MethodId} {below : List Frame} {meth : Method} {c : Code} (l : Launch) {b L : Nat} {xs : Nat → Int32} (hL : L ≤ 320) (C0 : lw_At p s m meth c b L xs) {D : va_G} {ad ae : Nat → Nat} {bd be : Nat → ClassId} (hK1 : va_K D vwCl (tyX bd) s) (hK2 : va_K D vwCl (tyM be) s) : ∀ (n i : Nat) (S C V NS NC NV : Nat → Int32) (mk : Nat) (Wk a b2 : Nat → Int32), i ≤ L → L < i + n → Rep S C V a → XW p l e room_1 s m #[Value.ref b] below meth c 11 706 (lw_Z below #[Value.ref b] s) D (fun q : Nat => s.heap.size ≤ q) 4 (wX ad bd S C V NS NC NV mk Wk ++ wM ae be a b2) 18 [.ref b, .ref (ad 0), .ref (ae 0), .int (nI i)] [] := by
  obtain ⟨hx, hb, hr, hml, hown, hts0, hX, hbl, hlocks, hgv⟩ := id C0
  have hts : ∀ w ∈ lw_all, w.before #[Value.ref b] s = true := fun w h => hts0 w (lw_all_tbl h)
  have hbA : ¬ s.heap.size ≤ b := Nat.not_le.mpr hbl
  have K : XC p room_1 s m #[Value.ref b] c 11 706 D (fun q : Nat => s.heap.size ≤ q) (tyX bd) 4 cL_law R_law 5 := ⟨hx, hb, hml, hown, hts, hK1, fun _ h => h, ⟨by decide, by decide⟩, ⟨by decide, by decide⟩⟩
  intro n
  induction n with
  | zero =>
    intro i S C V NS NC NV mk Wk a b2 h1 h2
    exact absurd h2 (by omega)
  | succ n ih =>
    intro i S C V NS NC NV mk Wk a b2 hi hn hR
    refine x_iload_n K dL_law_18 rfl ?_
    refine x_aload_n K dL_law_19 rfl ?_
    refine x_slen K hX hbl hbA dL_law_20 ?_
    refine x_iconst K (nI 5) dL_law_21 (by decide) ?_
    refine x_isub K dL_law_22 ?_
    refine x_cmp_gt K 709 dL_law_23 (by decide) (fun hc => ?_) (fun hc => ?_)
    · refine x_iconst K 1 dL_law_709 (by decide) ?_
      intro H locs ls hP hD hS h
      refine va_forget (fun q hq => hS.2.2 q hq) ?_
      refine W.widen (k := 600000) (n := 7290000) (by omega) (by omega) ?_
      exact lw_ret hx hb hr hlocks dL_law_710
    · have hi5 : i + 5 ≤ L := by
        have := mt (lw_gt hL hi).mpr hc
        omega
      have fin : ∀ (S C V NS NC NV : Nat → Int32) (mk : Nat) (Wk a b2 : Nat → Int32), Rep S C V a → XW p l e room_1 s m #[Value.ref b] below meth c 11 706 (lw_Z below #[Value.ref b] s) D (fun q : Nat => s.heap.size ≤ q) 4 (wX ad bd S C V NS NC NV mk Wk ++ wM ae be a b2) 703 [.ref b, .ref (ad 0), .ref (ae 0), .int (nI i)] [] := by
        intro S C V NS NC NV mk Wk a b2 hR
        refine x_iinc K (nI (i + 5)) [.ref b, .ref (ad 0), .ref (ae 0), .int (nI (i + 5))] dL_law_703 rfl (by rw [← nI_add]; rfl) (by decide) (Nat.le_of_ble_eq_true rfl) rfl ?_
        refine x_goto K 18 dL_law_706 (by decide) ?_
        exact ih (i + 5) S C V NS NC NV mk Wk a b2 hi5 (by omega) hR
      refine x_aload_n K dL_law_26 rfl ?_
      refine x_iload_n K dL_law_27 rfl ?_
      refine x_sld K hX hbl hbA (by omega) (by omega) dL_law_28 ?_
      refine x_bipush K (nI 15) dL_law_29 (by decide) ?_
      refine x_iand K dL_law_31 ?_
      obtain ⟨j, hj, ej⟩ := pk_andE (xs i) (m := nI 15) 4 (by decide)
      refine x_top (y := nI j) ej ?_
      rcases (show j = 0 ∨ j = 1 ∨ j = 2 ∨ j = 3 ∨ j = 4 ∨ j = 5 ∨ j = 6 ∨ j = 7 ∨ j = 8 ∨ j = 9 ∨ j = 10 ∨ j = 11 ∨ j = 12 ∨ j = 13 ∨ j = 14 ∨ j = 15 by omega) with rfl | rfl | rfl | rfl | rfl | rfl | rfl | rfl | rfl | rfl | rfl | rfl | rfl | rfl | rfl | rfl
      · refine x_tsIn (off := 76) K 108 dL_law_32 (by decide) (by decide) (by decide) (by decide) ?_
        exact law_put l hL hX hbl hbA hK1 hK2 K hi5 hR fin
      · refine x_tsIn (off := 129) K 161 dL_law_32 (by decide) (by decide) (by decide) (by decide) ?_
        exact law_add l hL hX hbl hbA hK1 hK2 K hi5 hR fin
      · refine x_tsIn (off := 172) K 204 dL_law_32 (by decide) (by decide) (by decide) (by decide) ?_
        exact law_entrywise l hL hX hbl hbA hK1 hK2 K hi5 hR fin
      · refine x_tsIn (off := 215) K 247 dL_law_32 (by decide) (by decide) (by decide) (by decide) ?_
        exact law_product l hL hX hbl hbA hK1 hK2 K hi5 hR fin
      · refine x_tsIn (off := 258) K 290 dL_law_32 (by decide) (by decide) (by decide) (by decide) ?_
        exact law_masked l hL hX hbl hbA hK1 hK2 K hi5 hR fin
      · refine x_tsIn (off := 291) K 323 dL_law_32 (by decide) (by decide) (by decide) (by decide) ?_
        exact law_transpose l hL hX hbl hbA hK1 hK2 K hi5 hR fin
      · refine x_tsIn (off := 324) K 356 dL_law_32 (by decide) (by decide) (by decide) (by decide) ?_
        exact law_scale l hL hX hbl hbA hK1 hK2 K hi5 hR fin
      · refine x_tsIn (off := 367) K 399 dL_law_32 (by decide) (by decide) (by decide) (by decide) ?_
        exact law_select l hL hX hbl hbA hK1 hK2 K hi5 hR fin
      · refine x_tsIn (off := 410) K 442 dL_law_32 (by decide) (by decide) (by decide) (by decide) ?_
        exact law_at l hL hX hbl hbA hK1 hK2 K hi5 hR fin
      · refine x_tsIn (off := 453) K 485 dL_law_32 (by decide) (by decide) (by decide) (by decide) ?_
        exact law_count l hL hX hbl hbA hK1 hK2 K hi5 hR fin
      · refine x_tsIn (off := 476) K 508 dL_law_32 (by decide) (by decide) (by decide) (by decide) ?_
        exact law_next l hL hX hbl hbA hK1 hK2 K hi5 hR fin
      · refine x_tsIn (off := 519) K 551 dL_law_32 (by decide) (by decide) (by decide) (by decide) ?_
        exact law_rowsProduct l hL hX hbl hbA hK1 hK2 K hi5 hR fin
      · refine x_tsIn (off := 572) K 604 dL_law_32 (by decide) (by decide) (by decide) (by decide) ?_
        exact law_sum l hL hX hbl hbA hK1 hK2 K hi5 hR fin
      · refine x_tsIn (off := 615) K 647 dL_law_32 (by decide) (by decide) (by decide) (by decide) ?_
        exact law_same l hL hX hbl hbA hK1 hK2 K hi5 hR fin
      · refine x_tsIn (off := 648) K 680 dL_law_32 (by decide) (by decide) (by decide) (by decide) ?_
        exact law_symmetric l hL hX hbl hbA hK1 hK2 K hi5 hR fin
      · refine x_tsOut K 703 dL_law_32 (by decide) (by decide) ?_
        exact fin S C V NS NC NV mk Wk a b2 hR
set_option maxHeartbeats 4000000 in
/-- YOUR PART: from the entry, for every script of at most 320 ints, the law comes to its end with true -/
theorem whole_start {p : Program} {e : Env} {s : State} {m : MethodId} {below : List Frame} {meth : Method} {c : Code} (l : Launch) {b L : Nat} {xs : Nat → Int32} (hL : L ≤ 320) (C0 : lw_At p s m meth c b L xs) : W p l e room_1 s m #[Value.ref b] below meth c s.heap [] 0 0 (lw_Z below #[Value.ref b] s) (entryFrame m ([Value.ref b] : List Value).toArray 4) := by
  obtain ⟨hx, hb, hr, hml, hown, hts0, hX, hbl, hlocks, hgv⟩ := id C0
  have hts : ∀ w ∈ lw_all, w.before #[Value.ref b] s = true := fun w h => hts0 w (lw_all_tbl h)
  have hA : ∀ q : Nat, s.heap.size ≤ q → (fun q : Nat => s.heap.size ≤ q) q := fun _ h => h
  obtain ⟨c0, iS0, hKn0⟩ := u_known (C := RX0) (T := TX0) (N := 8) (n := 8) hts in_X0 (hts _ q21)
  obtain ⟨c1, iS1, hKn1⟩ := u_known (C := RX1) (T := TX1) (N := 2) (n := 2) hts in_X1 (hts _ q170)
  obtain ⟨D, hKc⟩ : ∃ D : va_G, ∀ (k : Nat) (q : vw_C), vwCl[k]? = some q → u_Kn s q.1 q.2.1 q.2.2 (D.1 k) (D.2 k) := by
    refine ⟨(fun k => if k = 0 then c0 else c1, fun k => if k = 0 then iS0 else iS1), ?_⟩
    intro k q hq
    match k, hq with
    | 0, hq => cases hq; exact hKn0
    | 1, hq => cases hq; exact hKn1
    | k + 2, hq => simp [vwCl] at hq
  have hS : va_S (fun q : Nat => s.heap.size ≤ q) s.heap s.heap [] := va_S.rf
  have hK : va_K D vwCl [] s := ⟨hKc, fun k q h => by simp at h⟩
  have hP : va_P D vwCl [] s.heap := fun k q h => by simp at h
  have hD : va_D (fun q : Nat => s.heap.size ≤ q) [] := ⟨fun i j p q h => by simp at h, fun k q h => by simp at h⟩
  have hl := lv_entry ([.ref b]) (n := 4) (Nat.le_of_ble_eq_true rfl)
  rw [lg_entry_eq]
  generalize (lg_sl ([.ref b]) ++ List.replicate (4 - (lg_sl ([.ref b])).length) Slot.unset).toArray = ls at hl ⊢
  have hl : lv_has ls 4 [(0, .ref b)] := hl
  refine va_new (ci := 0) (fs := [.null, .null, .null, .null, .null, .null, .int 0, .null]) (C := RX0) (T := TX0) (N := 8) hx hb hts in_X0 tyX0 tyX0_ok hown (hts _ q20) (hts _ q21) (hts _ q18) hK hP hD hS hA rfl (fun j hj => by rcases (show j = 0 ∨ j = 1 ∨ j = 2 ∨ j = 3 ∨ j = 4 ∨ j = 5 ∨ j = 6 ∨ j = 7 by omega) with rfl | rfl | rfl | rfl | rfl | rfl | rfl | rfl <;> rfl) (Nat.le_of_ble_eq_true rfl) (Nat.le_of_ble_eq_true rfl) dL_law_0 (fun x0 H hP hD hS => ?_)
  have hP : va_P D vwCl [(x0, .inr (0, [.null, .null, .null, .null, .null, .null, .int 0, .null]))] H := hP
  have hD : va_D (fun q : Nat => s.heap.size ≤ q) [(x0, .inr (0, [.null, .null, .null, .null, .null, .null, .int 0, .null]))] := hD
  refine W.widen (k := 1) (n := 8) (by omega) (by omega) ?_
  refine lv_dup hx hb dL_law_3 rfl ?_
  have hFc := xa_in hA hD hS
  refine va_callv (va_runI (As := []) (rest := [.ref x0]) ⟨hx, hb, hml, hown, hts⟩ (ctX_init l D x0 H.size) (cwI 0 hts (lw_meth q24) rfl rfl rfl (hts _ q18) (hts _ q22) (hts _ q23) rfl (by decide +kernel) ⟨Nat.le_of_ble_eq_true rfl, Nat.le_of_ble_eq_true rfl⟩) ⟨xp_blind, fun U hU hW => ⟨rfl, by rw [hU], by rw [hU]; exact hP, va_K.moved hW.alike hK, hD.weaken (fun _ _ _ _ => trivial)⟩⟩ rfl rfl hl.1 rfl (lv_room (Nat.le_of_ble_eq_true rfl)) dL_law_4 ⟨Nat.le_of_ble_eq_true rfl, Nat.le_of_ble_eq_true rfl⟩) hS (fun q _ h => hFc q h) hFc (fun u t H1 locs ht hvm hw1 hB hz1 hk1 hS => ?_)
  obtain ⟨ad, bd⟩ := u
  have hw1 : ad 0 = x0 := hw1
  subst hw1
  obtain ⟨hP1, hK1, hD1⟩ := hB
  rw [ht] at hP1
  have hK1 : va_K D vwCl (tyX bd) s := va_K.moved hvm.symm hK1
  have hP : va_P D vwCl (wX ad bd (fun _ => 0) (fun _ => 0) (fun _ => 0) (fun _ => 0) (fun _ => 0) (fun _ => 0) 0 (fun _ => 0)) H1 := hP1
  have hD : va_D (fun q : Nat => s.heap.size ≤ q) (wX ad bd (fun _ => 0) (fun _ => 0) (fun _ => 0) (fun _ => 0) (fun _ => 0) (fun _ => 0) 0 (fun _ => 0)) := va_D.weaken hD1 (fun _ _ _ hq => hFc _ hq)
  refine W.widen (k := 8) (n := 488) (by omega) (by omega) ?_
  refine lv_astore_n (lv' := [(1, .ref (ad 0)), (0, .ref b)]) hx hb dL_law_7 rfl hl (by decide) rfl (fun ls hl => ?_)
  refine va_new (ci := 1) (fs := [.null, .null]) (C := RX1) (T := TX1) (N := 2) hx hb hts in_X1 tyX1 tyX1_ok hown (hts _ q169) (hts _ q170) (hts _ q19) hK1 hP hD hS hA rfl (fun j hj => by rcases (show j = 0 ∨ j = 1 by omega) with rfl | rfl <;> rfl) (Nat.le_of_ble_eq_true rfl) (Nat.le_of_ble_eq_true rfl) dL_law_8 (fun y0 H hP hD hS => ?_)
  refine W.widen (k := 9) (n := 490) (by omega) (by omega) ?_
  refine lv_dup hx hb dL_law_11 rfl ?_
  have hPc : va_P D vwCl [(y0, .inr (1, [.null, .null]))] H := va_Pr hP
  have hDc : va_D (fun q : Nat => s.heap.size ≤ q) [(y0, .inr (1, [.null, .null]))] := va_Dr hD
  have hFc := xa_in hA hDc hS
  refine va_callv (va_runI (As := []) (rest := [.ref y0]) ⟨hx, hb, hml, hown, hts⟩ (ctM_init l D y0 H.size) (cwI 0 hts (lw_meth q173) rfl rfl rfl (hts _ q19) (hts _ q171) (hts _ q172) rfl (by decide +kernel) ⟨Nat.le_of_ble_eq_true rfl, Nat.le_of_ble_eq_true rfl⟩) ⟨xp_blind, fun U hU hW => ⟨rfl, by rw [hU], by rw [hU]; exact hPc, va_K.moved hW.alike hK, hDc.weaken (fun _ _ _ _ => trivial)⟩⟩ rfl rfl hl.1 rfl (lv_room (Nat.le_of_ble_eq_true rfl)) dL_law_12 ⟨Nat.le_of_ble_eq_true rfl, Nat.le_of_ble_eq_true rfl⟩) hS (fun q _ h => hFc q h) hFc (fun u t H1 locs ht hvm hw1 hB hz1 hk1 hS => ?_)
  obtain ⟨ae, be⟩ := u
  have hw1 : ae 0 = y0 := hw1
  subst hw1
  obtain ⟨hP1, hK2, hD1⟩ := hB
  rw [ht] at hP1
  have hK2 : va_K D vwCl (tyM be) s := va_K.moved hvm.symm hK2
  obtain ⟨hP2, hD2⟩ := va_side (va_Pswap hP) (va_Dswap hD) hk1 hFc hP1 hD1
  have hP : va_P D vwCl (wX ad bd (fun _ => 0) (fun _ => 0) (fun _ => 0) (fun _ => 0) (fun _ => 0) (fun _ => 0) 0 (fun _ => 0) ++ wM ae be (fun _ => 0) (fun _ => 0)) H1 := va_Pswap hP2
  have hD : va_D (fun q : Nat => s.heap.size ≤ q) (wX ad bd (fun _ => 0) (fun _ => 0) (fun _ => 0) (fun _ => 0) (fun _ => 0) (fun _ => 0) 0 (fun _ => 0) ++ wM ae be (fun _ => 0) (fun _ => 0)) := va_Dswap hD2
  refine W.widen (k := 11) (n := 706) (by omega) (by omega) ?_
  refine lv_astore_n (lv' := [(2, .ref (ae 0)), (1, .ref (ad 0)), (0, .ref b)]) hx hb dL_law_15 rfl hl (by decide) rfl (fun ls hl => ?_)
  refine lv_iconst (v := nI 0) hx hb dL_law_16 (by decide) ?_
  refine lv_istore_n (lv' := [(3, .int (nI 0)), (2, .ref (ae 0)), (1, .ref (ad 0)), (0, .ref b)]) hx hb dL_law_17 rfl hl (by decide) rfl (fun ls hl => ?_)
  exact law_loop l hL C0 hK1 hK2 (L + 1) 0 _ _ _ _ _ _ 0 _ _ _ (Nat.zero_le _) (by omega) rep_0 H1 locs ls hP hD hS (lp_of4 hl rfl rfl rfl rfl)
end
section
set_option maxRecDepth 100000
set_option maxHeartbeats 4000000 in
theorem lw_walk (l : Launch) (b : Addr) (xs : List Int32) : MetFree l x (headSpec (Jvm.Cond.code x code maxLocals ret :: tables_1) room_1) (lw_P b xs) (fun _ _ _ _ _ => True) lw_Q := by
  refine MetFree.of_bodyS (code := code) (maxLocals := maxLocals) (ret := ret) (by decide) ?_ ?_
  · intro args s m h hn
    obtain ⟨meth, c, h1, h2, h3, h4, h5, h6, -, -⟩ := Cond.code_spec hn (atoms_spec (ws := Jvm.Cond.code x code maxLocals ret :: tables_1) h _ List.mem_cons_self)
    exact ⟨meth, c, h1, h2, h3, h4, h5, h6⟩
  · intro p e s m args below meth c s₁ B hml0 hP _
    obtain ⟨rfl, hx, hbd, hgv⟩ := hP
    obtain ⟨scr, harrAt, hlist, hof, hsmall⟩ := hx
    obtain ⟨hcb, hkn, -, -⟩ := State.arrayAt?_spec harrAt
    have hown : s.vm.findClass R_law = some m.cls := findClass_of_methodNamed B.named
    have hts0 : ∀ c ∈ (Jvm.Cond.code x code maxLocals ret :: tables_1), c.before #[Value.ref b] s = true := atoms_spec (ws := Jvm.Cond.code x code maxLocals ret :: tables_1) B.pre
    have hts : ∀ w ∈ lw_tbl, w.before #[Value.ref b] s = true := k2_hts_sels lw_privs (fun w hw => hts0 w (List.mem_cons_of_mem _ hw)) lw_privs_ok
    have hml : c.maxLocals = 4 := B.maxLocals_eq (hts0 _ List.mem_cons_self)
    have X₀ : Stand p l e room_1 s m #[Value.ref b] below meth c s₁ [] 0 0 := Stand.of_body B
    have hh0 : s₁.heap = s.heap := by rw [B.state]; rfl
    have hsz : scr.slots.size = xs.length := by rw [← Array.length_toList, hlist, List.length_map]
    have hval : ∀ j : Nat, j < xs.length → scr.slots[j]? = some (.int (xs.getD j 0)) := fun j hj => by
      rw [← Array.getElem?_toList, hlist]
      simp [hj]
    have hbl : b < s.heap.size := (Array.getElem?_eq_some_iff.mp hcb).1
    have hX : va_X b xs.length (fun j => xs.getD j 0) s s.heap := ⟨scr, hcb, hof, hkn, hsz, hval⟩
    have K : W p l e room_1 s m #[Value.ref b] below meth c s₁.heap [] 0 0 (lw_Z below #[Value.ref b] s) (entryFrame m ([Value.ref b] : List Value).toArray 4) := by
      rw [hh0]
      exact whole_start l hbd ⟨B.exec, B.bytes, B.returns, hml, hown, hts, hX, hbl, B.notSynchronized, hgv⟩
    obtain ⟨t, a1, o, b1, b2, b3⟩ := K s₁ rfl X₀
    exact ⟨t, o, a1, b1, b2, b3⟩
theorem lw_pre_spec {args : Array Value} {s : State} (h : (Jvm.Cond.and given_1 narrow_1).before args s = true) (hr : rest_1_c.before args s = true) : ∃ (b : Addr) (xs : List Int32), lw_P b xs args s := by
  have hs := flat_of_before _ h
  have hq := flat_of_before _ hr
  have hc : (Cond.count 1).before args s = true := hs _ (by decide +kernel)
  have harr : (Cond.arrayOf (.arg 0) .int).before args s = true := hs _ (by decide +kernel)
  have hle : (Cond.le (.length (.arg 0)) (.int 320)).before args s = true := hs _ (by decide +kernel)
  have hlen : (Cond.isInt (.length (.arg 0))).before args s = true := hq _ (by decide +kernel)
  have hall : (Cond.all (.arg 0) (.isInt (.elem (.arg 0) (.index 0)))).before args s = true := hq _ (by decide +kernel)
  obtain ⟨b, xs, hb, hx⟩ := State.ints_of_pre rfl harr hlen hall
  have hsm : xs.length < 2 ^ 31 := hx.choose_spec.2.2.2
  have hev : (Term.length (.arg 0)).eval args s none [] s = some (.int xs.length.toInt32) := hx.length_eval hb
  have hv := Cond.le_ints hev (show (Term.int 320).eval args s none [] s = some (.int 320) from rfl)
  have hd : xs.length.toInt32 ≤ 320 := by
    simpa [Cond.before, Cond.holds, hv] using hle
  have hN : xs.length ≤ 320 := (Int32.ofNat_le_ofNat hsm (by decide)).mp (show Int32.ofNat xs.length ≤ Int32.ofNat 320 from hd)
  exact ⟨b, xs, Cond.one_arg hc (show args[0]? = some (.ref b) from hb), hx, hN, h⟩
theorem lw_comes (l : Launch) : Comes l x (Jvm.Cond.code x code maxLocals ret :: tables_1) room_1 (fun tb e args s => Calls_1 tb e args s ∧ rest_1 tb e args s ∧ Pre_1 tb e args s)
    (fun _ _ args s o t => lw_Q args s o t) := by
  intro p e ha hc hk s m args below hf hfit hheap happ hpre
  obtain ⟨b, xs, hP⟩ := lw_pre_spec hpre.2.2 hpre.2.1
  obtain ⟨k, o, h1, h2, h3, hQ⟩ := lw_walk l b xs p e ha hc hk s m args below hf ((Spec.applies_iff_loose hf).mp happ).1 hP trivial
  exact ⟨k, o, h1, h2, h3, hQ⟩
theorem lw_frame {s t : State} {o : Outcome} {args : Array Value} (h : Framed s o t [] 600000 7290000) :
    Framed s o t (fieldLocs frame_1_writes args s ++ arrayLocs frame_1_arrays args s ++ staticLocs frame_1_statics s) 600000 7290000 := h
theorem lw_limb (L : Cond) (hL : ∀ (args : Array Value) (s t : State), L.after args s (.returned (some (.int 1))) t = true) :
    ArmFor flags0 classFile x code maxLocals ret World_1 tables_1 room_1 Calls_1 rest_1 Pre_1
      (fun tb e a s o t => postC L tb e a s o t ∧ Framed s o t (fieldLocs frame_1_writes a s ++ arrayLocs frame_1_arrays a s ++ staticLocs frame_1_statics s) 600000 7290000) := by
  intro l _ _ _ p e ha hc hk s m args below hf hfit hheap happ hpre
  obtain ⟨k, o, h1, h2, h3, rfl, hF⟩ := lw_comes l p e ha hc hk s m args below hf hfit hheap happ hpre
  exact ⟨k, _, h1, h2, h3, hL args s _, lw_frame hF⟩
theorem i_vc : Claimed_1_1 ∧ Claimed_1_2 := ⟨lw_limb limb_1_1 (fun args s t => by simp [limb_1_1, Cond.after, Cond.holds, Cond.value]), lw_limb limb_1_2 (fun args s t => Cond.after_iff.mpr (by
  first | (rw [show limb_1_2 = Cond.eq .result (.int 1) from rfl, Cond.eq_ints (x := 1) (y := 1) rfl rfl]; simp; done) | (simp [limb_1_2, Cond.value, Term.eval]; done)))⟩
end
