section
-- ===== PART A: goes FIRST, ahead of the names: the tables' words, and 'selects' of the private methods out of them =====
/-- a private method of a class that the tables say can be made, by its rows of tables_1 -/
def lw_okq (q : MethodName × Nat) : Prop := (q.1.cls ≠ "java/lang/invoke/MethodHandle" ∧ q.1.cls ≠ "java/lang/invoke/VarHandle") ∧ Cond.instantiable q.1.cls q.2 ∈ tables_1 ∧ Cond.privateMethod q.1 ∈ tables_1 ∧ Cond.instanceMethod q.1 ∈ tables_1
set_option maxRecDepth 100000
theorem lw_t1 {w : Cond} (h : w ∈ tables_1_1) : w ∈ tables_1 := List.mem_append_left _ h
theorem lw_t2 {w : Cond} (h : w ∈ tables_1_2) : w ∈ tables_1 := List.mem_append_right _ h
theorem lw_p0 : lw_okq (⟨"PathAlgebra", "pushMove", "(I)I"⟩, 16) := ⟨⟨by decide +kernel, by decide +kernel⟩, lw_t1 (List.mem_of_getElem? (i := 4) rfl), lw_t1 (List.mem_of_getElem? (i := 73) rfl), lw_t1 (List.mem_of_getElem? (i := 74) rfl)⟩
theorem lw_p1 : lw_okq (⟨"PathAlgebra", "refusal", "(I)I"⟩, 16) := ⟨⟨by decide +kernel, by decide +kernel⟩, lw_t1 (List.mem_of_getElem? (i := 4) rfl), lw_t1 (List.mem_of_getElem? (i := 77) rfl), lw_t1 (List.mem_of_getElem? (i := 78) rfl)⟩
theorem lw_p2 : lw_okq (⟨"PathAlgebra", "addMove", "(III)V"⟩, 16) := ⟨⟨by decide +kernel, by decide +kernel⟩, lw_t1 (List.mem_of_getElem? (i := 4) rfl), lw_t1 (List.mem_of_getElem? (i := 81) rfl), lw_t1 (List.mem_of_getElem? (i := 82) rfl)⟩
theorem lw_p3 : lw_okq (⟨"PathAlgebra", "search", "(I)V"⟩, 16) := ⟨⟨by decide +kernel, by decide +kernel⟩, lw_t1 (List.mem_of_getElem? (i := 4) rfl), lw_t1 (List.mem_of_getElem? (i := 116) rfl), lw_t1 (List.mem_of_getElem? (i := 117) rfl)⟩
theorem lw_p4 : lw_okq (⟨"PathAlgebra", "reachHere", "(III)V"⟩, 16) := ⟨⟨by decide +kernel, by decide +kernel⟩, lw_t1 (List.mem_of_getElem? (i := 4) rfl), lw_t1 (List.mem_of_getElem? (i := 120) rfl), lw_t1 (List.mem_of_getElem? (i := 121) rfl)⟩
theorem lw_p5 : lw_okq (⟨"PathAlgebra", "workLevel", "(I)V"⟩, 16) := ⟨⟨by decide +kernel, by decide +kernel⟩, lw_t1 (List.mem_of_getElem? (i := 4) rfl), lw_t1 (List.mem_of_getElem? (i := 124) rfl), lw_t1 (List.mem_of_getElem? (i := 125) rfl)⟩
theorem lw_p6 : lw_okq (⟨"PathAlgebra", "follow", "(III)V"⟩, 16) := ⟨⟨by decide +kernel, by decide +kernel⟩, lw_t1 (List.mem_of_getElem? (i := 4) rfl), lw_t1 (List.mem_of_getElem? (i := 128) rfl), lw_t1 (List.mem_of_getElem? (i := 129) rfl)⟩
theorem lw_p7 : lw_okq (⟨"PathAlgebra", "keepComing", "(II)V"⟩, 16) := ⟨⟨by decide +kernel, by decide +kernel⟩, lw_t1 (List.mem_of_getElem? (i := 4) rfl), lw_t1 (List.mem_of_getElem? (i := 132) rfl), lw_t1 (List.mem_of_getElem? (i := 133) rfl)⟩
theorem lw_p8 : lw_okq (⟨"PathAlgebra", "isComing", "(I)Z"⟩, 16) := ⟨⟨by decide +kernel, by decide +kernel⟩, lw_t1 (List.mem_of_getElem? (i := 4) rfl), lw_t1 (List.mem_of_getElem? (i := 136) rfl), lw_t1 (List.mem_of_getElem? (i := 137) rfl)⟩
theorem lw_p9 : lw_okq (⟨"PathAlgebra", "lengthTo", "(I)I"⟩, 16) := ⟨⟨by decide +kernel, by decide +kernel⟩, lw_t1 (List.mem_of_getElem? (i := 4) rfl), lw_t1 (List.mem_of_getElem? (i := 140) rfl), lw_t1 (List.mem_of_getElem? (i := 141) rfl)⟩
theorem lw_p10 : lw_okq (⟨"PathAlgebra", "reachFrom", "(I)I"⟩, 16) := ⟨⟨by decide +kernel, by decide +kernel⟩, lw_t1 (List.mem_of_getElem? (i := 4) rfl), lw_t1 (List.mem_of_getElem? (i := 152) rfl), lw_t1 (List.mem_of_getElem? (i := 153) rfl)⟩
theorem lw_p11 : lw_okq (⟨"PathAlgebraModel", "step", "(III)I"⟩, 6) := ⟨⟨by decide +kernel, by decide +kernel⟩, lw_t1 (List.mem_of_getElem? (i := 172) rfl), lw_t1 (List.mem_of_getElem? (i := 206) rfl), lw_t1 (List.mem_of_getElem? (i := 207) rfl)⟩
theorem lw_p12 : lw_okq (⟨"PathAlgebraModel", "bad", "(I)Z"⟩, 6) := ⟨⟨by decide +kernel, by decide +kernel⟩, lw_t1 (List.mem_of_getElem? (i := 172) rfl), lw_t1 (List.mem_of_getElem? (i := 238) rfl), lw_t1 (List.mem_of_getElem? (i := 239) rfl)⟩
theorem lw_p13 : lw_okq (⟨"PathAlgebraModel", "workOut", "()I"⟩, 6) := ⟨⟨by decide +kernel, by decide +kernel⟩, lw_t1 (List.mem_of_getElem? (i := 172) rfl), lw_t2 (List.mem_of_getElem? (i := 2) rfl), lw_t2 (List.mem_of_getElem? (i := 3) rfl)⟩
theorem lw_p14 : lw_okq (⟨"PathAlgebraModel", "single", "(IIII)I"⟩, 6) := ⟨⟨by decide +kernel, by decide +kernel⟩, lw_t1 (List.mem_of_getElem? (i := 172) rfl), lw_t2 (List.mem_of_getElem? (i := 6) rfl), lw_t2 (List.mem_of_getElem? (i := 7) rfl)⟩
theorem lw_p15 : lw_okq (⟨"PathAlgebraModel", "join", "(I)V"⟩, 6) := ⟨⟨by decide +kernel, by decide +kernel⟩, lw_t1 (List.mem_of_getElem? (i := 172) rfl), lw_t2 (List.mem_of_getElem? (i := 11) rfl), lw_t2 (List.mem_of_getElem? (i := 12) rfl)⟩
def lw_privs_1 : List (MethodName × Nat) := [(⟨"PathAlgebra", "pushMove", "(I)I"⟩, 16), (⟨"PathAlgebra", "refusal", "(I)I"⟩, 16), (⟨"PathAlgebra", "addMove", "(III)V"⟩, 16), (⟨"PathAlgebra", "search", "(I)V"⟩, 16), (⟨"PathAlgebra", "reachHere", "(III)V"⟩, 16), (⟨"PathAlgebra", "workLevel", "(I)V"⟩, 16), (⟨"PathAlgebra", "follow", "(III)V"⟩, 16), (⟨"PathAlgebra", "keepComing", "(II)V"⟩, 16), (⟨"PathAlgebra", "isComing", "(I)Z"⟩, 16), (⟨"PathAlgebra", "lengthTo", "(I)I"⟩, 16), (⟨"PathAlgebra", "reachFrom", "(I)I"⟩, 16), (⟨"PathAlgebraModel", "step", "(III)I"⟩, 6), (⟨"PathAlgebraModel", "bad", "(I)Z"⟩, 6), (⟨"PathAlgebraModel", "workOut", "()I"⟩, 6), (⟨"PathAlgebraModel", "single", "(IIII)I"⟩, 6), (⟨"PathAlgebraModel", "join", "(I)V"⟩, 6)]
theorem lw_r1 : ∀ q ∈ lw_privs_1, lw_okq q := List.forall_mem_cons.mpr ⟨lw_p0, List.forall_mem_cons.mpr ⟨lw_p1, List.forall_mem_cons.mpr ⟨lw_p2, List.forall_mem_cons.mpr ⟨lw_p3, List.forall_mem_cons.mpr ⟨lw_p4, List.forall_mem_cons.mpr ⟨lw_p5, List.forall_mem_cons.mpr ⟨lw_p6, List.forall_mem_cons.mpr ⟨lw_p7, List.forall_mem_cons.mpr ⟨lw_p8, List.forall_mem_cons.mpr ⟨lw_p9, List.forall_mem_cons.mpr ⟨lw_p10, List.forall_mem_cons.mpr ⟨lw_p11, List.forall_mem_cons.mpr ⟨lw_p12, List.forall_mem_cons.mpr ⟨lw_p13, List.forall_mem_cons.mpr ⟨lw_p14, List.forall_mem_cons.mpr ⟨lw_p15, fun _ h => absurd h List.not_mem_nil⟩⟩⟩⟩⟩⟩⟩⟩⟩⟩⟩⟩⟩⟩⟩⟩
theorem lw_p16 : lw_okq (⟨"PathAlgebraModel", "least", "(II)I"⟩, 6) := ⟨⟨by decide +kernel, by decide +kernel⟩, lw_t1 (List.mem_of_getElem? (i := 172) rfl), lw_t2 (List.mem_of_getElem? (i := 15) rfl), lw_t2 (List.mem_of_getElem? (i := 16) rfl)⟩
theorem lw_p17 : lw_okq (⟨"PathAlgebraModel", "close", "(I)V"⟩, 6) := ⟨⟨by decide +kernel, by decide +kernel⟩, lw_t1 (List.mem_of_getElem? (i := 172) rfl), lw_t2 (List.mem_of_getElem? (i := 19) rfl), lw_t2 (List.mem_of_getElem? (i := 20) rfl)⟩
theorem lw_p18 : lw_okq (⟨"PathAlgebraModel", "length", "(III)I"⟩, 6) := ⟨⟨by decide +kernel, by decide +kernel⟩, lw_t1 (List.mem_of_getElem? (i := 172) rfl), lw_t2 (List.mem_of_getElem? (i := 23) rfl), lw_t2 (List.mem_of_getElem? (i := 24) rfl)⟩
def lw_privs_2 : List (MethodName × Nat) := [(⟨"PathAlgebraModel", "least", "(II)I"⟩, 6), (⟨"PathAlgebraModel", "close", "(I)V"⟩, 6), (⟨"PathAlgebraModel", "length", "(III)I"⟩, 6)]
theorem lw_r2 : ∀ q ∈ lw_privs_2, lw_okq q := List.forall_mem_cons.mpr ⟨lw_p16, List.forall_mem_cons.mpr ⟨lw_p17, List.forall_mem_cons.mpr ⟨lw_p18, fun _ h => absurd h List.not_mem_nil⟩⟩⟩
def lw_privs : List (MethodName × Nat) := lw_privs_1 ++ (lw_privs_2)
def lw_tbl : List Cond := k2_sels lw_privs ++ tables_1
theorem lw_privs_ok : ∀ q ∈ lw_privs, lw_okq q := by
  show ∀ q ∈ lw_privs_1 ++ (lw_privs_2), lw_okq q
  exact List.forall_mem_append.mpr ⟨lw_r1, lw_r2⟩
-- ===== ONE list of words for every method: the tables' words that hold all through a run =====
def lw_all : List Cond := lw_tbl.filter goodWord
/-- a word of the tables by its place: claim/WORDS.tsv -/
theorem lw_w {w : Cond} (i : Nat) (h : lw_tbl[i]? = some w) (g : goodWord w = true) : w ∈ lw_all := List.mem_filter.mpr ⟨List.mem_of_getElem? h, g⟩
theorem lw_all_tbl {w : Cond} (h : w ∈ lw_all) : w ∈ lw_tbl := (List.mem_filter.mp h).1
theorem lw_self : GoodIn lw_all lw_all := fun w h => ⟨h, good_of_word (List.mem_filter.mp h).2⟩
/-- a class's field words, by their places -/
theorem lw_in (ws : List Cond) (ps : List Nat) (hp : ws = ps.filterMap (fun i => lw_tbl[i]?)) (hg : ws.all goodWord = true) : ∀ w ∈ ws, w ∈ lw_all := by
  intro w h
  have h1 := List.all_eq_true.mp hg w h
  rw [hp] at h
  obtain ⟨i, -, hi⟩ := List.mem_filterMap.mp h
  exact lw_w i hi h1
/-- the words of a contract for the method y with code b, L locals, answer r -/
abbrev ws_ (y : MethodName) (b : ByteArray) (L : Nat) (r : Option FieldType) : List Cond := Cond.code y b L r :: lw_all
theorem lw_meth {y : MethodName} {b : ByteArray} {L : Nat} {r : Option FieldType} (h : Cond.code y b L r ∈ lw_all) : GoodIn lw_all (ws_ y b L r) := by
  intro w hw
  rcases List.mem_cons.mp hw with e | e
  · rw [e]
    exact lw_self _ h
  · exact lw_self _ e
theorem lw_app {a c : List Cond} (ha : ∀ w ∈ a, w ∈ lw_all) (hc : GoodIn lw_all c) : GoodIn lw_all (a ++ c) := by
  intro w hw
  rcases List.mem_append.mp hw with e | e
  · exact lw_self w (ha w e)
  · exact hc w e
/-- what a call through an object asks: cwV n hts (lw_V ..) -/
theorem lw_V {own : String} {idx : Nat} {C : String} {y : MethodName} {b : ByteArray} {L : Nat} {r : Option FieldType} (h1 : Cond.methodLink own idx y ∈ lw_all) (h2 : Cond.instanceMethod y ∈ lw_all) (h3 : Cond.selects C y y ∈ lw_all) (h4 : Cond.initialized C ∈ lw_all) (h5 : Cond.code y b L r ∈ lw_all) : GoodIn lw_all (wsV own idx C y (ws_ y b L r)) := by
  refine lw_app ?_ (lw_meth h5)
  intro w hw
  simp only [List.mem_cons, List.not_mem_nil, or_false] at hw
  rcases hw with e | e | e | e
  · rw [e]; exact h1
  · rw [e]; exact h2
  · rw [e]; exact h3
  · rw [e]; exact h4
/-- what a static call asks: va_cwS n hts (lw_S ..) -/
theorem lw_S {own : String} {idx : Nat} {y : MethodName} {b : ByteArray} {L : Nat} {r : Option FieldType} (h1 : Cond.methodLink own idx y ∈ lw_all) (h2 : Cond.static y ∈ lw_all) (h3 : Cond.initialized y.cls ∈ lw_all) (h4 : Cond.code y b L r ∈ lw_all) : GoodIn lw_all (va_wsS own idx y (ws_ y b L r)) := by
  refine lw_app ?_ (lw_meth h4)
  intro w hw
  simp only [List.mem_cons, List.not_mem_nil, or_false] at hw
  rcases hw with e | e | e
  · rw [e]; exact h1
  · rw [e]; exact h2
  · rw [e]; exact h3
/-- the words of a contract for a method WITH HANDLERS (hh: its table) -/
abbrev wsW_ (y : MethodName) (b : ByteArray) (L : Nat) (r : Option FieldType) (hh : List (Nat × Nat × Nat × Nat)) : List Cond := Cond.codeWith y b L r hh :: lw_all
theorem lw_methW {y : MethodName} {b : ByteArray} {L : Nat} {r : Option FieldType} {hh : List (Nat × Nat × Nat × Nat)} (h : Cond.codeWith y b L r hh ∈ lw_all) : GoodIn lw_all (wsW_ y b L r hh) := by
  intro w hw
  rcases List.mem_cons.mp hw with e | e
  · rw [e]
    exact lw_self _ h
  · exact lw_self _ e
/-- any list of words by their places (lw_in), good -/
theorem lw_good {ws : List Cond} (h : ∀ w ∈ ws, w ∈ lw_all) : GoodIn lw_all ws := fun w hw => lw_self w (h w hw)
/-- what a call of a method with handlers asks: vx_cwVW n hts (lw_VW ..), vx_cwSW n hts (lw_SW ..) -/
theorem lw_VW {own : String} {idx : Nat} {C : String} {y : MethodName} {b : ByteArray} {L : Nat} {r : Option FieldType} {hh : List (Nat × Nat × Nat × Nat)} (h1 : Cond.methodLink own idx y ∈ lw_all) (h2 : Cond.instanceMethod y ∈ lw_all) (h3 : Cond.selects C y y ∈ lw_all) (h4 : Cond.initialized C ∈ lw_all) (h5 : Cond.codeWith y b L r hh ∈ lw_all) : GoodIn lw_all (wsV own idx C y (wsW_ y b L r hh)) := by
  refine lw_app ?_ (lw_methW h5)
  intro w hw
  simp only [List.mem_cons, List.not_mem_nil, or_false] at hw
  rcases hw with e | e | e | e
  · rw [e]; exact h1
  · rw [e]; exact h2
  · rw [e]; exact h3
  · rw [e]; exact h4
theorem lw_SW {own : String} {idx : Nat} {y : MethodName} {b : ByteArray} {L : Nat} {r : Option FieldType} {hh : List (Nat × Nat × Nat × Nat)} (h1 : Cond.methodLink own idx y ∈ lw_all) (h2 : Cond.static y ∈ lw_all) (h3 : Cond.initialized y.cls ∈ lw_all) (h4 : Cond.codeWith y b L r hh ∈ lw_all) : GoodIn lw_all (va_wsS own idx y (wsW_ y b L r hh)) := by
  refine lw_app ?_ (lw_methW h4)
  intro w hw
  simp only [List.mem_cons, List.not_mem_nil, or_false] at hw
  rcases hw with e | e | e
  · rw [e]; exact h1
  · rw [e]; exact h2
  · rw [e]; exact h3
/-- a word by its place in its run of the tables -/
theorem lw_at {r : List Cond} (hr : ∀ w ∈ r, w ∈ lw_tbl) {w : Cond} (i : Nat) (h : r[i]? = some w) : w ∈ lw_tbl := hr w (List.mem_of_getElem? h)
theorem lw_g {w : Cond} (h : w ∈ lw_tbl) (g : goodWord w = true) : w ∈ lw_all := List.mem_filter.mpr ⟨h, g⟩
theorem lw_ms : ∀ w ∈ k2_sels lw_privs, w ∈ lw_tbl := fun w h => show w ∈ k2_sels lw_privs ++ tables_1 from List.mem_append_left _ h
theorem lw_m1 : ∀ w ∈ tables_1_1, w ∈ lw_tbl := fun w h => show w ∈ k2_sels lw_privs ++ tables_1 from List.mem_append_right (k2_sels lw_privs) (show w ∈ tables_1 from List.mem_append_left _ h)
theorem lw_m2 : ∀ w ∈ tables_1_2, w ∈ lw_tbl := fun w h => show w ∈ k2_sels lw_privs ++ tables_1 from List.mem_append_right (k2_sels lw_privs) (show w ∈ tables_1 from List.mem_append_right _ h)
theorem qs0 : (Cond.selects "PathAlgebra" ⟨"PathAlgebra", "pushMove", "(I)I"⟩ ⟨"PathAlgebra", "pushMove", "(I)I"⟩) ∈ lw_all := lw_g (lw_at lw_ms 0 rfl) rfl
theorem qs1 : (Cond.selects "PathAlgebra" ⟨"PathAlgebra", "refusal", "(I)I"⟩ ⟨"PathAlgebra", "refusal", "(I)I"⟩) ∈ lw_all := lw_g (lw_at lw_ms 1 rfl) rfl
theorem qs2 : (Cond.selects "PathAlgebra" ⟨"PathAlgebra", "addMove", "(III)V"⟩ ⟨"PathAlgebra", "addMove", "(III)V"⟩) ∈ lw_all := lw_g (lw_at lw_ms 2 rfl) rfl
theorem qs3 : (Cond.selects "PathAlgebra" ⟨"PathAlgebra", "search", "(I)V"⟩ ⟨"PathAlgebra", "search", "(I)V"⟩) ∈ lw_all := lw_g (lw_at lw_ms 3 rfl) rfl
theorem qs4 : (Cond.selects "PathAlgebra" ⟨"PathAlgebra", "reachHere", "(III)V"⟩ ⟨"PathAlgebra", "reachHere", "(III)V"⟩) ∈ lw_all := lw_g (lw_at lw_ms 4 rfl) rfl
theorem qs5 : (Cond.selects "PathAlgebra" ⟨"PathAlgebra", "workLevel", "(I)V"⟩ ⟨"PathAlgebra", "workLevel", "(I)V"⟩) ∈ lw_all := lw_g (lw_at lw_ms 5 rfl) rfl
theorem qs6 : (Cond.selects "PathAlgebra" ⟨"PathAlgebra", "follow", "(III)V"⟩ ⟨"PathAlgebra", "follow", "(III)V"⟩) ∈ lw_all := lw_g (lw_at lw_ms 6 rfl) rfl
theorem qs7 : (Cond.selects "PathAlgebra" ⟨"PathAlgebra", "keepComing", "(II)V"⟩ ⟨"PathAlgebra", "keepComing", "(II)V"⟩) ∈ lw_all := lw_g (lw_at lw_ms 7 rfl) rfl
theorem qs8 : (Cond.selects "PathAlgebra" ⟨"PathAlgebra", "isComing", "(I)Z"⟩ ⟨"PathAlgebra", "isComing", "(I)Z"⟩) ∈ lw_all := lw_g (lw_at lw_ms 8 rfl) rfl
theorem qs9 : (Cond.selects "PathAlgebra" ⟨"PathAlgebra", "lengthTo", "(I)I"⟩ ⟨"PathAlgebra", "lengthTo", "(I)I"⟩) ∈ lw_all := lw_g (lw_at lw_ms 9 rfl) rfl
theorem qs10 : (Cond.selects "PathAlgebra" ⟨"PathAlgebra", "reachFrom", "(I)I"⟩ ⟨"PathAlgebra", "reachFrom", "(I)I"⟩) ∈ lw_all := lw_g (lw_at lw_ms 10 rfl) rfl
theorem qs11 : (Cond.selects "PathAlgebraModel" ⟨"PathAlgebraModel", "step", "(III)I"⟩ ⟨"PathAlgebraModel", "step", "(III)I"⟩) ∈ lw_all := lw_g (lw_at lw_ms 11 rfl) rfl
theorem qs12 : (Cond.selects "PathAlgebraModel" ⟨"PathAlgebraModel", "bad", "(I)Z"⟩ ⟨"PathAlgebraModel", "bad", "(I)Z"⟩) ∈ lw_all := lw_g (lw_at lw_ms 12 rfl) rfl
theorem qs13 : (Cond.selects "PathAlgebraModel" ⟨"PathAlgebraModel", "workOut", "()I"⟩ ⟨"PathAlgebraModel", "workOut", "()I"⟩) ∈ lw_all := lw_g (lw_at lw_ms 13 rfl) rfl
theorem qs14 : (Cond.selects "PathAlgebraModel" ⟨"PathAlgebraModel", "single", "(IIII)I"⟩ ⟨"PathAlgebraModel", "single", "(IIII)I"⟩) ∈ lw_all := lw_g (lw_at lw_ms 14 rfl) rfl
theorem qs15 : (Cond.selects "PathAlgebraModel" ⟨"PathAlgebraModel", "join", "(I)V"⟩ ⟨"PathAlgebraModel", "join", "(I)V"⟩) ∈ lw_all := lw_g (lw_at lw_ms 15 rfl) rfl
theorem qs16 : (Cond.selects "PathAlgebraModel" ⟨"PathAlgebraModel", "least", "(II)I"⟩ ⟨"PathAlgebraModel", "least", "(II)I"⟩) ∈ lw_all := lw_g (lw_at lw_ms 16 rfl) rfl
theorem qs17 : (Cond.selects "PathAlgebraModel" ⟨"PathAlgebraModel", "close", "(I)V"⟩ ⟨"PathAlgebraModel", "close", "(I)V"⟩) ∈ lw_all := lw_g (lw_at lw_ms 17 rfl) rfl
theorem qs18 : (Cond.selects "PathAlgebraModel" ⟨"PathAlgebraModel", "length", "(III)I"⟩ ⟨"PathAlgebraModel", "length", "(III)I"⟩) ∈ lw_all := lw_g (lw_at lw_ms 18 rfl) rfl
end
section
set_option maxRecDepth 100000
/-! PathAlgebra -/
def RX0 : String := "PathAlgebra"
def TX0 : u_T := fun k => match k with
  | 0 => ("PathAlgebra", "forward", "[I", true)
  | 1 => ("PathAlgebra", "backward", "[I", true)
  | 2 => ("PathAlgebra", "made", "I", false)
  | 3 => ("PathAlgebra", "states", "I", false)
  | 4 => ("PathAlgebra", "moves", "I", false)
  | 5 => ("PathAlgebra", "kind", "[I", true)
  | 6 => ("PathAlgebra", "from", "[I", true)
  | 7 => ("PathAlgebra", "to", "[I", true)
  | 8 => ("PathAlgebra", "height", "I", false)
  | 9 => ("PathAlgebra", "start", "[I", true)
  | 10 => ("PathAlgebra", "end", "[I", true)
  | 11 => ("PathAlgebra", "length", "[I", true)
  | 12 => ("PathAlgebra", "here", "I", false)
  | 13 => ("PathAlgebra", "next", "I", false)
  | 14 => ("PathAlgebra", "level", "[I", true)
  | _ => ("PathAlgebra", "coming", "[I", true)
def tyX0 : Nat → FieldType := fun k => match k with
  | 0 => .array .int
  | 1 => .array .int
  | 2 => .int
  | 3 => .int
  | 4 => .int
  | 5 => .array .int
  | 6 => .array .int
  | 7 => .array .int
  | 8 => .int
  | 9 => .array .int
  | 10 => .array .int
  | 11 => .array .int
  | 12 => .int
  | 13 => .int
  | 14 => .array .int
  | _ => .array .int
abbrev wsX00 : List Cond := u_ws RX0 TX0 16
set_option maxRecDepth 100000 in
theorem nmX0 : ∀ a, a < 16 → ∀ b, b < 16 → a ≠ b → (TX0 a).2.1 ≠ (TX0 b).2.1 := by decide +kernel
set_option maxRecDepth 100000 in
theorem tyX0_ok : ∀ k, k < 16 → parseFieldDescriptor (TX0 k).2.2.1 = some (tyX0 k) := by decide +kernel
abbrev cX0_init : ByteArray := prog_1_method_1_code
def yX0_init : MethodName := ⟨RX0, "<init>", "()V"⟩
theorem dX0_init_0 : decode cX0_init 0 = .ok (.aload_n 0, 1) := by decide +kernel
theorem dX0_init_1 : decode cX0_init 1 = .ok (.invokespecial 1, 3) := by decide +kernel
theorem dX0_init_4 : decode cX0_init 4 = .ok (.aload_n 0, 1) := by decide +kernel
theorem dX0_init_5 : decode cX0_init 5 = .ok (.bipush 24, 2) := by decide +kernel
theorem dX0_init_7 : decode cX0_init 7 = .ok (.newarray .int, 2) := by decide +kernel
theorem dX0_init_9 : decode cX0_init 9 = .ok (.putfield 7, 3) := by decide +kernel
theorem dX0_init_12 : decode cX0_init 12 = .ok (.aload_n 0, 1) := by decide +kernel
theorem dX0_init_13 : decode cX0_init 13 = .ok (.bipush 24, 2) := by decide +kernel
theorem dX0_init_15 : decode cX0_init 15 = .ok (.newarray .int, 2) := by decide +kernel
theorem dX0_init_17 : decode cX0_init 17 = .ok (.putfield 13, 3) := by decide +kernel
theorem dX0_init_20 : decode cX0_init 20 = .ok (.aload_n 0, 1) := by decide +kernel
theorem dX0_init_21 : decode cX0_init 21 = .ok (.bipush 56, 2) := by decide +kernel
theorem dX0_init_23 : decode cX0_init 23 = .ok (.newarray .int, 2) := by decide +kernel
theorem dX0_init_25 : decode cX0_init 25 = .ok (.putfield 16, 3) := by decide +kernel
theorem dX0_init_28 : decode cX0_init 28 = .ok (.aload_n 0, 1) := by decide +kernel
theorem dX0_init_29 : decode cX0_init 29 = .ok (.bipush 56, 2) := by decide +kernel
theorem dX0_init_31 : decode cX0_init 31 = .ok (.newarray .int, 2) := by decide +kernel
theorem dX0_init_33 : decode cX0_init 33 = .ok (.putfield 19, 3) := by decide +kernel
theorem dX0_init_36 : decode cX0_init 36 = .ok (.aload_n 0, 1) := by decide +kernel
theorem dX0_init_37 : decode cX0_init 37 = .ok (.bipush 56, 2) := by decide +kernel
theorem dX0_init_39 : decode cX0_init 39 = .ok (.newarray .int, 2) := by decide +kernel
theorem dX0_init_41 : decode cX0_init 41 = .ok (.putfield 22, 3) := by decide +kernel
theorem dX0_init_44 : decode cX0_init 44 = .ok (.aload_n 0, 1) := by decide +kernel
theorem dX0_init_45 : decode cX0_init 45 = .ok (.bipush 6, 2) := by decide +kernel
theorem dX0_init_47 : decode cX0_init 47 = .ok (.newarray .int, 2) := by decide +kernel
theorem dX0_init_49 : decode cX0_init 49 = .ok (.putfield 25, 3) := by decide +kernel
theorem dX0_init_52 : decode cX0_init 52 = .ok (.aload_n 0, 1) := by decide +kernel
theorem dX0_init_53 : decode cX0_init 53 = .ok (.bipush 6, 2) := by decide +kernel
theorem dX0_init_55 : decode cX0_init 55 = .ok (.newarray .int, 2) := by decide +kernel
theorem dX0_init_57 : decode cX0_init 57 = .ok (.putfield 28, 3) := by decide +kernel
theorem dX0_init_60 : decode cX0_init 60 = .ok (.aload_n 0, 1) := by decide +kernel
theorem dX0_init_61 : decode cX0_init 61 = .ok (.sipush 224, 3) := by decide +kernel
theorem dX0_init_64 : decode cX0_init 64 = .ok (.newarray .int, 2) := by decide +kernel
theorem dX0_init_66 : decode cX0_init 66 = .ok (.putfield 31, 3) := by decide +kernel
theorem dX0_init_69 : decode cX0_init 69 = .ok (.aload_n 0, 1) := by decide +kernel
theorem dX0_init_70 : decode cX0_init 70 = .ok (.sipush 224, 3) := by decide +kernel
theorem dX0_init_73 : decode cX0_init 73 = .ok (.newarray .int, 2) := by decide +kernel
theorem dX0_init_75 : decode cX0_init 75 = .ok (.putfield 34, 3) := by decide +kernel
theorem dX0_init_78 : decode cX0_init 78 = .ok (.aload_n 0, 1) := by decide +kernel
theorem dX0_init_79 : decode cX0_init 79 = .ok (.sipush 224, 3) := by decide +kernel
theorem dX0_init_82 : decode cX0_init 82 = .ok (.newarray .int, 2) := by decide +kernel
theorem dX0_init_84 : decode cX0_init 84 = .ok (.putfield 37, 3) := by decide +kernel
theorem dX0_init_87 : decode cX0_init 87 = .ok (.aload_n 0, 1) := by decide +kernel
theorem dX0_init_88 : decode cX0_init 88 = .ok (.iconst 0, 1) := by decide +kernel
theorem dX0_init_89 : decode cX0_init 89 = .ok (.putfield 40, 3) := by decide +kernel
theorem dX0_init_92 : decode cX0_init 92 = .ok (.return_, 1) := by decide +kernel
abbrev cX0_edge : ByteArray := prog_1_method_4_code
def yX0_edge : MethodName := ⟨RX0, "edge", "(IIZ)I"⟩
theorem dX0_edge_0 : decode cX0_edge 0 = .ok (.iload_n 1, 1) := by decide +kernel
theorem dX0_edge_1 : decode cX0_edge 1 = .ok (.invokestatic 44, 3) := by decide +kernel
theorem dX0_edge_4 : decode cX0_edge 4 = .ok (.ifCond .eq 5, 3) := by decide +kernel
theorem dX0_edge_7 : decode cX0_edge 7 = .ok (.iconst (-1), 1) := by decide +kernel
theorem dX0_edge_8 : decode cX0_edge 8 = .ok (.ireturn, 1) := by decide +kernel
theorem dX0_edge_9 : decode cX0_edge 9 = .ok (.iload_n 2, 1) := by decide +kernel
theorem dX0_edge_10 : decode cX0_edge 10 = .ok (.ifCond .lt 9, 3) := by decide +kernel
theorem dX0_edge_13 : decode cX0_edge 13 = .ok (.iload_n 2, 1) := by decide +kernel
theorem dX0_edge_14 : decode cX0_edge 14 = .ok (.bipush 63, 2) := by decide +kernel
theorem dX0_edge_16 : decode cX0_edge 16 = .ok (.if_icmp .le 6, 3) := by decide +kernel
theorem dX0_edge_19 : decode cX0_edge 19 = .ok (.bipush (-2), 2) := by decide +kernel
theorem dX0_edge_21 : decode cX0_edge 21 = .ok (.ireturn, 1) := by decide +kernel
theorem dX0_edge_22 : decode cX0_edge 22 = .ok (.iload_n 2, 1) := by decide +kernel
theorem dX0_edge_23 : decode cX0_edge 23 = .ok (.bipush 7, 2) := by decide +kernel
theorem dX0_edge_25 : decode cX0_edge 25 = .ok (.iand, 1) := by decide +kernel
theorem dX0_edge_26 : decode cX0_edge 26 = .ok (.istore 4, 2) := by decide +kernel
theorem dX0_edge_28 : decode cX0_edge 28 = .ok (.iload_n 2, 1) := by decide +kernel
theorem dX0_edge_29 : decode cX0_edge 29 = .ok (.iconst 3, 1) := by decide +kernel
theorem dX0_edge_30 : decode cX0_edge 30 = .ok (.ishr, 1) := by decide +kernel
theorem dX0_edge_31 : decode cX0_edge 31 = .ok (.istore 5, 2) := by decide +kernel
theorem dX0_edge_33 : decode cX0_edge 33 = .ok (.aload_n 0, 1) := by decide +kernel
theorem dX0_edge_34 : decode cX0_edge 34 = .ok (.getfield 7, 3) := by decide +kernel
theorem dX0_edge_37 : decode cX0_edge 37 = .ok (.iload_n 1, 1) := by decide +kernel
theorem dX0_edge_38 : decode cX0_edge 38 = .ok (.bipush 8, 2) := by decide +kernel
theorem dX0_edge_40 : decode cX0_edge 40 = .ok (.imul, 1) := by decide +kernel
theorem dX0_edge_41 : decode cX0_edge 41 = .ok (.iload 4, 2) := by decide +kernel
theorem dX0_edge_43 : decode cX0_edge 43 = .ok (.iadd, 1) := by decide +kernel
theorem dX0_edge_44 : decode cX0_edge 44 = .ok (.iaload, 1) := by decide +kernel
theorem dX0_edge_45 : decode cX0_edge 45 = .ok (.iload 5, 2) := by decide +kernel
theorem dX0_edge_47 : decode cX0_edge 47 = .ok (.ishr, 1) := by decide +kernel
theorem dX0_edge_48 : decode cX0_edge 48 = .ok (.iconst 1, 1) := by decide +kernel
theorem dX0_edge_49 : decode cX0_edge 49 = .ok (.iand, 1) := by decide +kernel
theorem dX0_edge_50 : decode cX0_edge 50 = .ok (.istore 6, 2) := by decide +kernel
theorem dX0_edge_52 : decode cX0_edge 52 = .ok (.aload_n 0, 1) := by decide +kernel
theorem dX0_edge_53 : decode cX0_edge 53 = .ok (.getfield 7, 3) := by decide +kernel
theorem dX0_edge_56 : decode cX0_edge 56 = .ok (.iload_n 1, 1) := by decide +kernel
theorem dX0_edge_57 : decode cX0_edge 57 = .ok (.bipush 8, 2) := by decide +kernel
theorem dX0_edge_59 : decode cX0_edge 59 = .ok (.imul, 1) := by decide +kernel
theorem dX0_edge_60 : decode cX0_edge 60 = .ok (.iload 4, 2) := by decide +kernel
theorem dX0_edge_62 : decode cX0_edge 62 = .ok (.iadd, 1) := by decide +kernel
theorem dX0_edge_63 : decode cX0_edge 63 = .ok (.dup2, 1) := by decide +kernel
theorem dX0_edge_64 : decode cX0_edge 64 = .ok (.iaload, 1) := by decide +kernel
theorem dX0_edge_65 : decode cX0_edge 65 = .ok (.iconst 1, 1) := by decide +kernel
theorem dX0_edge_66 : decode cX0_edge 66 = .ok (.iload 5, 2) := by decide +kernel
theorem dX0_edge_68 : decode cX0_edge 68 = .ok (.ishl, 1) := by decide +kernel
theorem dX0_edge_69 : decode cX0_edge 69 = .ok (.iconst (-1), 1) := by decide +kernel
theorem dX0_edge_70 : decode cX0_edge 70 = .ok (.ixor, 1) := by decide +kernel
theorem dX0_edge_71 : decode cX0_edge 71 = .ok (.iand, 1) := by decide +kernel
theorem dX0_edge_72 : decode cX0_edge 72 = .ok (.iastore, 1) := by decide +kernel
theorem dX0_edge_73 : decode cX0_edge 73 = .ok (.aload_n 0, 1) := by decide +kernel
theorem dX0_edge_74 : decode cX0_edge 74 = .ok (.getfield 13, 3) := by decide +kernel
theorem dX0_edge_77 : decode cX0_edge 77 = .ok (.iload_n 1, 1) := by decide +kernel
theorem dX0_edge_78 : decode cX0_edge 78 = .ok (.bipush 8, 2) := by decide +kernel
theorem dX0_edge_80 : decode cX0_edge 80 = .ok (.imul, 1) := by decide +kernel
theorem dX0_edge_81 : decode cX0_edge 81 = .ok (.iload 5, 2) := by decide +kernel
theorem dX0_edge_83 : decode cX0_edge 83 = .ok (.iadd, 1) := by decide +kernel
theorem dX0_edge_84 : decode cX0_edge 84 = .ok (.dup2, 1) := by decide +kernel
theorem dX0_edge_85 : decode cX0_edge 85 = .ok (.iaload, 1) := by decide +kernel
theorem dX0_edge_86 : decode cX0_edge 86 = .ok (.iconst 1, 1) := by decide +kernel
theorem dX0_edge_87 : decode cX0_edge 87 = .ok (.iload 4, 2) := by decide +kernel
theorem dX0_edge_89 : decode cX0_edge 89 = .ok (.ishl, 1) := by decide +kernel
theorem dX0_edge_90 : decode cX0_edge 90 = .ok (.iconst (-1), 1) := by decide +kernel
theorem dX0_edge_91 : decode cX0_edge 91 = .ok (.ixor, 1) := by decide +kernel
theorem dX0_edge_92 : decode cX0_edge 92 = .ok (.iand, 1) := by decide +kernel
theorem dX0_edge_93 : decode cX0_edge 93 = .ok (.iastore, 1) := by decide +kernel
theorem dX0_edge_94 : decode cX0_edge 94 = .ok (.iload_n 3, 1) := by decide +kernel
theorem dX0_edge_95 : decode cX0_edge 95 = .ok (.ifCond .eq 41, 3) := by decide +kernel
theorem dX0_edge_98 : decode cX0_edge 98 = .ok (.aload_n 0, 1) := by decide +kernel
theorem dX0_edge_99 : decode cX0_edge 99 = .ok (.getfield 7, 3) := by decide +kernel
theorem dX0_edge_102 : decode cX0_edge 102 = .ok (.iload_n 1, 1) := by decide +kernel
theorem dX0_edge_103 : decode cX0_edge 103 = .ok (.bipush 8, 2) := by decide +kernel
theorem dX0_edge_105 : decode cX0_edge 105 = .ok (.imul, 1) := by decide +kernel
theorem dX0_edge_106 : decode cX0_edge 106 = .ok (.iload 4, 2) := by decide +kernel
theorem dX0_edge_108 : decode cX0_edge 108 = .ok (.iadd, 1) := by decide +kernel
theorem dX0_edge_109 : decode cX0_edge 109 = .ok (.dup2, 1) := by decide +kernel
theorem dX0_edge_110 : decode cX0_edge 110 = .ok (.iaload, 1) := by decide +kernel
theorem dX0_edge_111 : decode cX0_edge 111 = .ok (.iconst 1, 1) := by decide +kernel
theorem dX0_edge_112 : decode cX0_edge 112 = .ok (.iload 5, 2) := by decide +kernel
theorem dX0_edge_114 : decode cX0_edge 114 = .ok (.ishl, 1) := by decide +kernel
theorem dX0_edge_115 : decode cX0_edge 115 = .ok (.ior, 1) := by decide +kernel
theorem dX0_edge_116 : decode cX0_edge 116 = .ok (.iastore, 1) := by decide +kernel
theorem dX0_edge_117 : decode cX0_edge 117 = .ok (.aload_n 0, 1) := by decide +kernel
theorem dX0_edge_118 : decode cX0_edge 118 = .ok (.getfield 13, 3) := by decide +kernel
theorem dX0_edge_121 : decode cX0_edge 121 = .ok (.iload_n 1, 1) := by decide +kernel
theorem dX0_edge_122 : decode cX0_edge 122 = .ok (.bipush 8, 2) := by decide +kernel
theorem dX0_edge_124 : decode cX0_edge 124 = .ok (.imul, 1) := by decide +kernel
theorem dX0_edge_125 : decode cX0_edge 125 = .ok (.iload 5, 2) := by decide +kernel
theorem dX0_edge_127 : decode cX0_edge 127 = .ok (.iadd, 1) := by decide +kernel
theorem dX0_edge_128 : decode cX0_edge 128 = .ok (.dup2, 1) := by decide +kernel
theorem dX0_edge_129 : decode cX0_edge 129 = .ok (.iaload, 1) := by decide +kernel
theorem dX0_edge_130 : decode cX0_edge 130 = .ok (.iconst 1, 1) := by decide +kernel
theorem dX0_edge_131 : decode cX0_edge 131 = .ok (.iload 4, 2) := by decide +kernel
theorem dX0_edge_133 : decode cX0_edge 133 = .ok (.ishl, 1) := by decide +kernel
theorem dX0_edge_134 : decode cX0_edge 134 = .ok (.ior, 1) := by decide +kernel
theorem dX0_edge_135 : decode cX0_edge 135 = .ok (.iastore, 1) := by decide +kernel
theorem dX0_edge_136 : decode cX0_edge 136 = .ok (.iload 6, 2) := by decide +kernel
theorem dX0_edge_138 : decode cX0_edge 138 = .ok (.ireturn, 1) := by decide +kernel
abbrev cX0_badLabel : ByteArray := prog_1_method_3_code
def yX0_badLabel : MethodName := ⟨RX0, "badLabel", "(I)Z"⟩
theorem dX0_badLabel_0 : decode cX0_badLabel 0 = .ok (.iload_n 0, 1) := by decide +kernel
theorem dX0_badLabel_1 : decode cX0_badLabel 1 = .ok (.ifCond .lt 8, 3) := by decide +kernel
theorem dX0_badLabel_4 : decode cX0_badLabel 4 = .ok (.iload_n 0, 1) := by decide +kernel
theorem dX0_badLabel_5 : decode cX0_badLabel 5 = .ok (.iconst 2, 1) := by decide +kernel
theorem dX0_badLabel_6 : decode cX0_badLabel 6 = .ok (.if_icmp .le 7, 3) := by decide +kernel
theorem dX0_badLabel_9 : decode cX0_badLabel 9 = .ok (.iconst 1, 1) := by decide +kernel
theorem dX0_badLabel_10 : decode cX0_badLabel 10 = .ok (.goto 4, 3) := by decide +kernel
theorem dX0_badLabel_13 : decode cX0_badLabel 13 = .ok (.iconst 0, 1) := by decide +kernel
theorem dX0_badLabel_14 : decode cX0_badLabel 14 = .ok (.ireturn, 1) := by decide +kernel
abbrev cX0_label : ByteArray := prog_1_method_8_code
def yX0_label : MethodName := ⟨RX0, "label", "(I)I"⟩
theorem dX0_label_0 : decode cX0_label 0 = .ok (.iload_n 1, 1) := by decide +kernel
theorem dX0_label_1 : decode cX0_label 1 = .ok (.invokestatic 44, 3) := by decide +kernel
theorem dX0_label_4 : decode cX0_label 4 = .ok (.ifCond .eq 7, 3) := by decide +kernel
theorem dX0_label_7 : decode cX0_label 7 = .ok (.iconst (-1), 1) := by decide +kernel
theorem dX0_label_8 : decode cX0_label 8 = .ok (.goto 8, 3) := by decide +kernel
theorem dX0_label_11 : decode cX0_label 11 = .ok (.aload_n 0, 1) := by decide +kernel
theorem dX0_label_12 : decode cX0_label 12 = .ok (.iload_n 1, 1) := by decide +kernel
theorem dX0_label_13 : decode cX0_label 13 = .ok (.invokevirtual 65, 3) := by decide +kernel
theorem dX0_label_16 : decode cX0_label 16 = .ok (.ireturn, 1) := by decide +kernel
abbrev cX0_pushMove : ByteArray := prog_1_method_7_code
def yX0_pushMove : MethodName := ⟨RX0, "pushMove", "(I)I"⟩
theorem dX0_pushMove_0 : decode cX0_pushMove 0 = .ok (.aload_n 0, 1) := by decide +kernel
theorem dX0_pushMove_1 : decode cX0_pushMove 1 = .ok (.iconst 0, 1) := by decide +kernel
theorem dX0_pushMove_2 : decode cX0_pushMove 2 = .ok (.invokevirtual 54, 3) := by decide +kernel
theorem dX0_pushMove_5 : decode cX0_pushMove 5 = .ok (.istore_n 2, 1) := by decide +kernel
theorem dX0_pushMove_6 : decode cX0_pushMove 6 = .ok (.iload_n 2, 1) := by decide +kernel
theorem dX0_pushMove_7 : decode cX0_pushMove 7 = .ok (.ifCond .eq 5, 3) := by decide +kernel
theorem dX0_pushMove_10 : decode cX0_pushMove 10 = .ok (.iload_n 2, 1) := by decide +kernel
theorem dX0_pushMove_11 : decode cX0_pushMove 11 = .ok (.ireturn, 1) := by decide +kernel
theorem dX0_pushMove_12 : decode cX0_pushMove 12 = .ok (.aload_n 0, 1) := by decide +kernel
theorem dX0_pushMove_13 : decode cX0_pushMove 13 = .ok (.dup, 1) := by decide +kernel
theorem dX0_pushMove_14 : decode cX0_pushMove 14 = .ok (.getfield 40, 3) := by decide +kernel
theorem dX0_pushMove_17 : decode cX0_pushMove 17 = .ok (.iconst 1, 1) := by decide +kernel
theorem dX0_pushMove_18 : decode cX0_pushMove 18 = .ok (.iadd, 1) := by decide +kernel
theorem dX0_pushMove_19 : decode cX0_pushMove 19 = .ok (.putfield 40, 3) := by decide +kernel
theorem dX0_pushMove_22 : decode cX0_pushMove 22 = .ok (.aload_n 0, 1) := by decide +kernel
theorem dX0_pushMove_23 : decode cX0_pushMove 23 = .ok (.iload_n 1, 1) := by decide +kernel
theorem dX0_pushMove_24 : decode cX0_pushMove 24 = .ok (.aload_n 0, 1) := by decide +kernel
theorem dX0_pushMove_25 : decode cX0_pushMove 25 = .ok (.getfield 58, 3) := by decide +kernel
theorem dX0_pushMove_28 : decode cX0_pushMove 28 = .ok (.aload_n 0, 1) := by decide +kernel
theorem dX0_pushMove_29 : decode cX0_pushMove 29 = .ok (.getfield 58, 3) := by decide +kernel
theorem dX0_pushMove_32 : decode cX0_pushMove 32 = .ok (.iconst 1, 1) := by decide +kernel
theorem dX0_pushMove_33 : decode cX0_pushMove 33 = .ok (.iadd, 1) := by decide +kernel
theorem dX0_pushMove_34 : decode cX0_pushMove 34 = .ok (.invokevirtual 61, 3) := by decide +kernel
theorem dX0_pushMove_37 : decode cX0_pushMove 37 = .ok (.aload_n 0, 1) := by decide +kernel
theorem dX0_pushMove_38 : decode cX0_pushMove 38 = .ok (.getfield 25, 3) := by decide +kernel
theorem dX0_pushMove_41 : decode cX0_pushMove 41 = .ok (.aload_n 0, 1) := by decide +kernel
theorem dX0_pushMove_42 : decode cX0_pushMove 42 = .ok (.getfield 51, 3) := by decide +kernel
theorem dX0_pushMove_45 : decode cX0_pushMove 45 = .ok (.aload_n 0, 1) := by decide +kernel
theorem dX0_pushMove_46 : decode cX0_pushMove 46 = .ok (.getfield 58, 3) := by decide +kernel
theorem dX0_pushMove_49 : decode cX0_pushMove 49 = .ok (.iastore, 1) := by decide +kernel
theorem dX0_pushMove_50 : decode cX0_pushMove 50 = .ok (.aload_n 0, 1) := by decide +kernel
theorem dX0_pushMove_51 : decode cX0_pushMove 51 = .ok (.getfield 28, 3) := by decide +kernel
theorem dX0_pushMove_54 : decode cX0_pushMove 54 = .ok (.aload_n 0, 1) := by decide +kernel
theorem dX0_pushMove_55 : decode cX0_pushMove 55 = .ok (.getfield 51, 3) := by decide +kernel
theorem dX0_pushMove_58 : decode cX0_pushMove 58 = .ok (.aload_n 0, 1) := by decide +kernel
theorem dX0_pushMove_59 : decode cX0_pushMove 59 = .ok (.getfield 58, 3) := by decide +kernel
theorem dX0_pushMove_62 : decode cX0_pushMove 62 = .ok (.iconst 1, 1) := by decide +kernel
theorem dX0_pushMove_63 : decode cX0_pushMove 63 = .ok (.iadd, 1) := by decide +kernel
theorem dX0_pushMove_64 : decode cX0_pushMove 64 = .ok (.iastore, 1) := by decide +kernel
theorem dX0_pushMove_65 : decode cX0_pushMove 65 = .ok (.aload_n 0, 1) := by decide +kernel
theorem dX0_pushMove_66 : decode cX0_pushMove 66 = .ok (.dup, 1) := by decide +kernel
theorem dX0_pushMove_67 : decode cX0_pushMove 67 = .ok (.getfield 58, 3) := by decide +kernel
theorem dX0_pushMove_70 : decode cX0_pushMove 70 = .ok (.iconst 2, 1) := by decide +kernel
theorem dX0_pushMove_71 : decode cX0_pushMove 71 = .ok (.iadd, 1) := by decide +kernel
theorem dX0_pushMove_72 : decode cX0_pushMove 72 = .ok (.putfield 58, 3) := by decide +kernel
theorem dX0_pushMove_75 : decode cX0_pushMove 75 = .ok (.aload_n 0, 1) := by decide +kernel
theorem dX0_pushMove_76 : decode cX0_pushMove 76 = .ok (.dup, 1) := by decide +kernel
theorem dX0_pushMove_77 : decode cX0_pushMove 77 = .ok (.getfield 51, 3) := by decide +kernel
theorem dX0_pushMove_80 : decode cX0_pushMove 80 = .ok (.iconst 1, 1) := by decide +kernel
theorem dX0_pushMove_81 : decode cX0_pushMove 81 = .ok (.iadd, 1) := by decide +kernel
theorem dX0_pushMove_82 : decode cX0_pushMove 82 = .ok (.putfield 51, 3) := by decide +kernel
theorem dX0_pushMove_85 : decode cX0_pushMove 85 = .ok (.aload_n 0, 1) := by decide +kernel
theorem dX0_pushMove_86 : decode cX0_pushMove 86 = .ok (.getfield 51, 3) := by decide +kernel
theorem dX0_pushMove_89 : decode cX0_pushMove 89 = .ok (.ireturn, 1) := by decide +kernel
abbrev cX0_refusal : ByteArray := prog_1_method_6_code
def yX0_refusal : MethodName := ⟨RX0, "refusal", "(I)I"⟩
theorem dX0_refusal_0 : decode cX0_refusal 0 = .ok (.aload_n 0, 1) := by decide +kernel
theorem dX0_refusal_1 : decode cX0_refusal 1 = .ok (.getfield 40, 3) := by decide +kernel
theorem dX0_refusal_4 : decode cX0_refusal 4 = .ok (.bipush 14, 2) := by decide +kernel
theorem dX0_refusal_6 : decode cX0_refusal 6 = .ok (.if_icmp .ge 16, 3) := by decide +kernel
theorem dX0_refusal_9 : decode cX0_refusal 9 = .ok (.iload_n 1, 1) := by decide +kernel
theorem dX0_refusal_10 : decode cX0_refusal 10 = .ok (.ifCond .ne 15, 3) := by decide +kernel
theorem dX0_refusal_13 : decode cX0_refusal 13 = .ok (.aload_n 0, 1) := by decide +kernel
theorem dX0_refusal_14 : decode cX0_refusal 14 = .ok (.getfield 51, 3) := by decide +kernel
theorem dX0_refusal_17 : decode cX0_refusal 17 = .ok (.bipush 6, 2) := by decide +kernel
theorem dX0_refusal_19 : decode cX0_refusal 19 = .ok (.if_icmp .lt 6, 3) := by decide +kernel
theorem dX0_refusal_22 : decode cX0_refusal 22 = .ok (.bipush (-3), 2) := by decide +kernel
theorem dX0_refusal_24 : decode cX0_refusal 24 = .ok (.ireturn, 1) := by decide +kernel
theorem dX0_refusal_25 : decode cX0_refusal 25 = .ok (.aload_n 0, 1) := by decide +kernel
theorem dX0_refusal_26 : decode cX0_refusal 26 = .ok (.getfield 51, 3) := by decide +kernel
theorem dX0_refusal_29 : decode cX0_refusal 29 = .ok (.iload_n 1, 1) := by decide +kernel
theorem dX0_refusal_30 : decode cX0_refusal 30 = .ok (.if_icmp .ge 8, 3) := by decide +kernel
theorem dX0_refusal_33 : decode cX0_refusal 33 = .ok (.bipush (-4), 2) := by decide +kernel
theorem dX0_refusal_35 : decode cX0_refusal 35 = .ok (.goto 4, 3) := by decide +kernel
theorem dX0_refusal_38 : decode cX0_refusal 38 = .ok (.iconst 0, 1) := by decide +kernel
theorem dX0_refusal_39 : decode cX0_refusal 39 = .ok (.ireturn, 1) := by decide +kernel
abbrev cX0_addMove : ByteArray := prog_1_method_5_code
def yX0_addMove : MethodName := ⟨RX0, "addMove", "(III)V"⟩
theorem dX0_addMove_0 : decode cX0_addMove 0 = .ok (.aload_n 0, 1) := by decide +kernel
theorem dX0_addMove_1 : decode cX0_addMove 1 = .ok (.getfield 16, 3) := by decide +kernel
theorem dX0_addMove_4 : decode cX0_addMove 4 = .ok (.aload_n 0, 1) := by decide +kernel
theorem dX0_addMove_5 : decode cX0_addMove 5 = .ok (.getfield 48, 3) := by decide +kernel
theorem dX0_addMove_8 : decode cX0_addMove 8 = .ok (.iload_n 1, 1) := by decide +kernel
theorem dX0_addMove_9 : decode cX0_addMove 9 = .ok (.iastore, 1) := by decide +kernel
theorem dX0_addMove_10 : decode cX0_addMove 10 = .ok (.aload_n 0, 1) := by decide +kernel
theorem dX0_addMove_11 : decode cX0_addMove 11 = .ok (.getfield 19, 3) := by decide +kernel
theorem dX0_addMove_14 : decode cX0_addMove 14 = .ok (.aload_n 0, 1) := by decide +kernel
theorem dX0_addMove_15 : decode cX0_addMove 15 = .ok (.getfield 48, 3) := by decide +kernel
theorem dX0_addMove_18 : decode cX0_addMove 18 = .ok (.iload_n 2, 1) := by decide +kernel
theorem dX0_addMove_19 : decode cX0_addMove 19 = .ok (.iastore, 1) := by decide +kernel
theorem dX0_addMove_20 : decode cX0_addMove 20 = .ok (.aload_n 0, 1) := by decide +kernel
theorem dX0_addMove_21 : decode cX0_addMove 21 = .ok (.getfield 22, 3) := by decide +kernel
theorem dX0_addMove_24 : decode cX0_addMove 24 = .ok (.aload_n 0, 1) := by decide +kernel
theorem dX0_addMove_25 : decode cX0_addMove 25 = .ok (.getfield 48, 3) := by decide +kernel
theorem dX0_addMove_28 : decode cX0_addMove 28 = .ok (.iload_n 3, 1) := by decide +kernel
theorem dX0_addMove_29 : decode cX0_addMove 29 = .ok (.iastore, 1) := by decide +kernel
theorem dX0_addMove_30 : decode cX0_addMove 30 = .ok (.aload_n 0, 1) := by decide +kernel
theorem dX0_addMove_31 : decode cX0_addMove 31 = .ok (.dup, 1) := by decide +kernel
theorem dX0_addMove_32 : decode cX0_addMove 32 = .ok (.getfield 48, 3) := by decide +kernel
theorem dX0_addMove_35 : decode cX0_addMove 35 = .ok (.iconst 1, 1) := by decide +kernel
theorem dX0_addMove_36 : decode cX0_addMove 36 = .ok (.iadd, 1) := by decide +kernel
theorem dX0_addMove_37 : decode cX0_addMove 37 = .ok (.putfield 48, 3) := by decide +kernel
theorem dX0_addMove_40 : decode cX0_addMove 40 = .ok (.return_, 1) := by decide +kernel
abbrev cX0_back : ByteArray := prog_1_method_9_code
def yX0_back : MethodName := ⟨RX0, "back", "(I)I"⟩
theorem dX0_back_0 : decode cX0_back 0 = .ok (.iload_n 1, 1) := by decide +kernel
theorem dX0_back_1 : decode cX0_back 1 = .ok (.invokestatic 44, 3) := by decide +kernel
theorem dX0_back_4 : decode cX0_back 4 = .ok (.ifCond .eq 7, 3) := by decide +kernel
theorem dX0_back_7 : decode cX0_back 7 = .ok (.iconst (-1), 1) := by decide +kernel
theorem dX0_back_8 : decode cX0_back 8 = .ok (.goto 10, 3) := by decide +kernel
theorem dX0_back_11 : decode cX0_back 11 = .ok (.aload_n 0, 1) := by decide +kernel
theorem dX0_back_12 : decode cX0_back 12 = .ok (.iconst 3, 1) := by decide +kernel
theorem dX0_back_13 : decode cX0_back 13 = .ok (.iload_n 1, 1) := by decide +kernel
theorem dX0_back_14 : decode cX0_back 14 = .ok (.iadd, 1) := by decide +kernel
theorem dX0_back_15 : decode cX0_back 15 = .ok (.invokevirtual 65, 3) := by decide +kernel
theorem dX0_back_18 : decode cX0_back 18 = .ok (.ireturn, 1) := by decide +kernel
abbrev cX0_at : ByteArray := prog_1_method_10_code
def yX0_at : MethodName := ⟨RX0, "at", "(I)I"⟩
theorem dX0_at_0 : decode cX0_at 0 = .ok (.iload_n 1, 1) := by decide +kernel
theorem dX0_at_1 : decode cX0_at 1 = .ok (.iconst (-1), 1) := by decide +kernel
theorem dX0_at_2 : decode cX0_at 2 = .ok (.if_icmp .lt 9, 3) := by decide +kernel
theorem dX0_at_5 : decode cX0_at 5 = .ok (.iload_n 1, 1) := by decide +kernel
theorem dX0_at_6 : decode cX0_at 6 = .ok (.bipush 8, 2) := by decide +kernel
theorem dX0_at_8 : decode cX0_at 8 = .ok (.if_icmp .lt 6, 3) := by decide +kernel
theorem dX0_at_11 : decode cX0_at 11 = .ok (.bipush (-2), 2) := by decide +kernel
theorem dX0_at_13 : decode cX0_at 13 = .ok (.ireturn, 1) := by decide +kernel
theorem dX0_at_14 : decode cX0_at 14 = .ok (.aload_n 0, 1) := by decide +kernel
theorem dX0_at_15 : decode cX0_at 15 = .ok (.iload_n 1, 1) := by decide +kernel
theorem dX0_at_16 : decode cX0_at 16 = .ok (.ifCond .ge 8, 3) := by decide +kernel
theorem dX0_at_19 : decode cX0_at 19 = .ok (.bipush 6, 2) := by decide +kernel
theorem dX0_at_21 : decode cX0_at 21 = .ok (.goto 7, 3) := by decide +kernel
theorem dX0_at_24 : decode cX0_at 24 = .ok (.bipush 7, 2) := by decide +kernel
theorem dX0_at_26 : decode cX0_at 26 = .ok (.iload_n 1, 1) := by decide +kernel
theorem dX0_at_27 : decode cX0_at 27 = .ok (.iadd, 1) := by decide +kernel
theorem dX0_at_28 : decode cX0_at 28 = .ok (.invokevirtual 65, 3) := by decide +kernel
theorem dX0_at_31 : decode cX0_at 31 = .ok (.ireturn, 1) := by decide +kernel
end
section
set_option maxRecDepth 100000
abbrev cX0_then : ByteArray := prog_1_method_11_code
def yX0_then : MethodName := ⟨RX0, "then", "()I"⟩
theorem dX0_then_0 : decode cX0_then 0 = .ok (.aload_n 0, 1) := by decide +kernel
theorem dX0_then_1 : decode cX0_then 1 = .ok (.iconst 2, 1) := by decide +kernel
theorem dX0_then_2 : decode cX0_then 2 = .ok (.invokevirtual 54, 3) := by decide +kernel
theorem dX0_then_5 : decode cX0_then 5 = .ok (.istore_n 1, 1) := by decide +kernel
theorem dX0_then_6 : decode cX0_then 6 = .ok (.iload_n 1, 1) := by decide +kernel
theorem dX0_then_7 : decode cX0_then 7 = .ok (.ifCond .eq 5, 3) := by decide +kernel
theorem dX0_then_10 : decode cX0_then 10 = .ok (.iload_n 1, 1) := by decide +kernel
theorem dX0_then_11 : decode cX0_then 11 = .ok (.ireturn, 1) := by decide +kernel
theorem dX0_then_12 : decode cX0_then 12 = .ok (.aload_n 0, 1) := by decide +kernel
theorem dX0_then_13 : decode cX0_then 13 = .ok (.dup, 1) := by decide +kernel
theorem dX0_then_14 : decode cX0_then 14 = .ok (.getfield 40, 3) := by decide +kernel
theorem dX0_then_17 : decode cX0_then 17 = .ok (.iconst 1, 1) := by decide +kernel
theorem dX0_then_18 : decode cX0_then 18 = .ok (.iadd, 1) := by decide +kernel
theorem dX0_then_19 : decode cX0_then 19 = .ok (.putfield 40, 3) := by decide +kernel
theorem dX0_then_22 : decode cX0_then 22 = .ok (.aload_n 0, 1) := by decide +kernel
theorem dX0_then_23 : decode cX0_then 23 = .ok (.dup, 1) := by decide +kernel
theorem dX0_then_24 : decode cX0_then 24 = .ok (.getfield 51, 3) := by decide +kernel
theorem dX0_then_27 : decode cX0_then 27 = .ok (.iconst 1, 1) := by decide +kernel
theorem dX0_then_28 : decode cX0_then 28 = .ok (.isub, 1) := by decide +kernel
theorem dX0_then_29 : decode cX0_then 29 = .ok (.putfield 51, 3) := by decide +kernel
theorem dX0_then_32 : decode cX0_then 32 = .ok (.aload_n 0, 1) := by decide +kernel
theorem dX0_then_33 : decode cX0_then 33 = .ok (.bipush 6, 2) := by decide +kernel
theorem dX0_then_35 : decode cX0_then 35 = .ok (.aload_n 0, 1) := by decide +kernel
theorem dX0_then_36 : decode cX0_then 36 = .ok (.getfield 28, 3) := by decide +kernel
theorem dX0_then_39 : decode cX0_then 39 = .ok (.aload_n 0, 1) := by decide +kernel
theorem dX0_then_40 : decode cX0_then 40 = .ok (.getfield 51, 3) := by decide +kernel
theorem dX0_then_43 : decode cX0_then 43 = .ok (.iconst 1, 1) := by decide +kernel
theorem dX0_then_44 : decode cX0_then 44 = .ok (.isub, 1) := by decide +kernel
theorem dX0_then_45 : decode cX0_then 45 = .ok (.iaload, 1) := by decide +kernel
theorem dX0_then_46 : decode cX0_then 46 = .ok (.aload_n 0, 1) := by decide +kernel
theorem dX0_then_47 : decode cX0_then 47 = .ok (.getfield 25, 3) := by decide +kernel
theorem dX0_then_50 : decode cX0_then 50 = .ok (.aload_n 0, 1) := by decide +kernel
theorem dX0_then_51 : decode cX0_then 51 = .ok (.getfield 51, 3) := by decide +kernel
theorem dX0_then_54 : decode cX0_then 54 = .ok (.iaload, 1) := by decide +kernel
theorem dX0_then_55 : decode cX0_then 55 = .ok (.invokevirtual 61, 3) := by decide +kernel
theorem dX0_then_58 : decode cX0_then 58 = .ok (.aload_n 0, 1) := by decide +kernel
theorem dX0_then_59 : decode cX0_then 59 = .ok (.getfield 28, 3) := by decide +kernel
theorem dX0_then_62 : decode cX0_then 62 = .ok (.aload_n 0, 1) := by decide +kernel
theorem dX0_then_63 : decode cX0_then 63 = .ok (.getfield 51, 3) := by decide +kernel
theorem dX0_then_66 : decode cX0_then 66 = .ok (.iconst 1, 1) := by decide +kernel
theorem dX0_then_67 : decode cX0_then 67 = .ok (.isub, 1) := by decide +kernel
theorem dX0_then_68 : decode cX0_then 68 = .ok (.aload_n 0, 1) := by decide +kernel
theorem dX0_then_69 : decode cX0_then 69 = .ok (.getfield 28, 3) := by decide +kernel
theorem dX0_then_72 : decode cX0_then 72 = .ok (.aload_n 0, 1) := by decide +kernel
theorem dX0_then_73 : decode cX0_then 73 = .ok (.getfield 51, 3) := by decide +kernel
theorem dX0_then_76 : decode cX0_then 76 = .ok (.iaload, 1) := by decide +kernel
theorem dX0_then_77 : decode cX0_then 77 = .ok (.iastore, 1) := by decide +kernel
theorem dX0_then_78 : decode cX0_then 78 = .ok (.aload_n 0, 1) := by decide +kernel
theorem dX0_then_79 : decode cX0_then 79 = .ok (.getfield 51, 3) := by decide +kernel
theorem dX0_then_82 : decode cX0_then 82 = .ok (.ireturn, 1) := by decide +kernel
abbrev cX0_or : ByteArray := prog_1_method_12_code
def yX0_or : MethodName := ⟨RX0, "or", "()I"⟩
theorem dX0_or_0 : decode cX0_or 0 = .ok (.aload_n 0, 1) := by decide +kernel
theorem dX0_or_1 : decode cX0_or 1 = .ok (.iconst 2, 1) := by decide +kernel
theorem dX0_or_2 : decode cX0_or 2 = .ok (.invokevirtual 54, 3) := by decide +kernel
theorem dX0_or_5 : decode cX0_or 5 = .ok (.istore_n 1, 1) := by decide +kernel
theorem dX0_or_6 : decode cX0_or 6 = .ok (.iload_n 1, 1) := by decide +kernel
theorem dX0_or_7 : decode cX0_or 7 = .ok (.ifCond .eq 5, 3) := by decide +kernel
theorem dX0_or_10 : decode cX0_or 10 = .ok (.iload_n 1, 1) := by decide +kernel
theorem dX0_or_11 : decode cX0_or 11 = .ok (.ireturn, 1) := by decide +kernel
theorem dX0_or_12 : decode cX0_or 12 = .ok (.aload_n 0, 1) := by decide +kernel
theorem dX0_or_13 : decode cX0_or 13 = .ok (.dup, 1) := by decide +kernel
theorem dX0_or_14 : decode cX0_or 14 = .ok (.getfield 40, 3) := by decide +kernel
theorem dX0_or_17 : decode cX0_or 17 = .ok (.iconst 1, 1) := by decide +kernel
theorem dX0_or_18 : decode cX0_or 18 = .ok (.iadd, 1) := by decide +kernel
theorem dX0_or_19 : decode cX0_or 19 = .ok (.putfield 40, 3) := by decide +kernel
theorem dX0_or_22 : decode cX0_or 22 = .ok (.aload_n 0, 1) := by decide +kernel
theorem dX0_or_23 : decode cX0_or 23 = .ok (.dup, 1) := by decide +kernel
theorem dX0_or_24 : decode cX0_or 24 = .ok (.getfield 51, 3) := by decide +kernel
theorem dX0_or_27 : decode cX0_or 27 = .ok (.iconst 1, 1) := by decide +kernel
theorem dX0_or_28 : decode cX0_or 28 = .ok (.isub, 1) := by decide +kernel
theorem dX0_or_29 : decode cX0_or 29 = .ok (.putfield 51, 3) := by decide +kernel
theorem dX0_or_32 : decode cX0_or 32 = .ok (.aload_n 0, 1) := by decide +kernel
theorem dX0_or_33 : decode cX0_or 33 = .ok (.bipush 6, 2) := by decide +kernel
theorem dX0_or_35 : decode cX0_or 35 = .ok (.aload_n 0, 1) := by decide +kernel
theorem dX0_or_36 : decode cX0_or 36 = .ok (.getfield 58, 3) := by decide +kernel
theorem dX0_or_39 : decode cX0_or 39 = .ok (.aload_n 0, 1) := by decide +kernel
theorem dX0_or_40 : decode cX0_or 40 = .ok (.getfield 25, 3) := by decide +kernel
theorem dX0_or_43 : decode cX0_or 43 = .ok (.aload_n 0, 1) := by decide +kernel
theorem dX0_or_44 : decode cX0_or 44 = .ok (.getfield 51, 3) := by decide +kernel
theorem dX0_or_47 : decode cX0_or 47 = .ok (.iconst 1, 1) := by decide +kernel
theorem dX0_or_48 : decode cX0_or 48 = .ok (.isub, 1) := by decide +kernel
theorem dX0_or_49 : decode cX0_or 49 = .ok (.iaload, 1) := by decide +kernel
theorem dX0_or_50 : decode cX0_or 50 = .ok (.invokevirtual 61, 3) := by decide +kernel
theorem dX0_or_53 : decode cX0_or 53 = .ok (.aload_n 0, 1) := by decide +kernel
theorem dX0_or_54 : decode cX0_or 54 = .ok (.bipush 6, 2) := by decide +kernel
theorem dX0_or_56 : decode cX0_or 56 = .ok (.aload_n 0, 1) := by decide +kernel
theorem dX0_or_57 : decode cX0_or 57 = .ok (.getfield 58, 3) := by decide +kernel
theorem dX0_or_60 : decode cX0_or 60 = .ok (.aload_n 0, 1) := by decide +kernel
theorem dX0_or_61 : decode cX0_or 61 = .ok (.getfield 25, 3) := by decide +kernel
theorem dX0_or_64 : decode cX0_or 64 = .ok (.aload_n 0, 1) := by decide +kernel
theorem dX0_or_65 : decode cX0_or 65 = .ok (.getfield 51, 3) := by decide +kernel
theorem dX0_or_68 : decode cX0_or 68 = .ok (.iaload, 1) := by decide +kernel
theorem dX0_or_69 : decode cX0_or 69 = .ok (.invokevirtual 61, 3) := by decide +kernel
theorem dX0_or_72 : decode cX0_or 72 = .ok (.aload_n 0, 1) := by decide +kernel
theorem dX0_or_73 : decode cX0_or 73 = .ok (.bipush 6, 2) := by decide +kernel
theorem dX0_or_75 : decode cX0_or 75 = .ok (.aload_n 0, 1) := by decide +kernel
theorem dX0_or_76 : decode cX0_or 76 = .ok (.getfield 28, 3) := by decide +kernel
theorem dX0_or_79 : decode cX0_or 79 = .ok (.aload_n 0, 1) := by decide +kernel
theorem dX0_or_80 : decode cX0_or 80 = .ok (.getfield 51, 3) := by decide +kernel
theorem dX0_or_83 : decode cX0_or 83 = .ok (.iconst 1, 1) := by decide +kernel
theorem dX0_or_84 : decode cX0_or 84 = .ok (.isub, 1) := by decide +kernel
theorem dX0_or_85 : decode cX0_or 85 = .ok (.iaload, 1) := by decide +kernel
theorem dX0_or_86 : decode cX0_or 86 = .ok (.aload_n 0, 1) := by decide +kernel
theorem dX0_or_87 : decode cX0_or 87 = .ok (.getfield 58, 3) := by decide +kernel
theorem dX0_or_90 : decode cX0_or 90 = .ok (.iconst 1, 1) := by decide +kernel
theorem dX0_or_91 : decode cX0_or 91 = .ok (.iadd, 1) := by decide +kernel
theorem dX0_or_92 : decode cX0_or 92 = .ok (.invokevirtual 61, 3) := by decide +kernel
theorem dX0_or_95 : decode cX0_or 95 = .ok (.aload_n 0, 1) := by decide +kernel
theorem dX0_or_96 : decode cX0_or 96 = .ok (.bipush 6, 2) := by decide +kernel
theorem dX0_or_98 : decode cX0_or 98 = .ok (.aload_n 0, 1) := by decide +kernel
theorem dX0_or_99 : decode cX0_or 99 = .ok (.getfield 28, 3) := by decide +kernel
theorem dX0_or_102 : decode cX0_or 102 = .ok (.aload_n 0, 1) := by decide +kernel
theorem dX0_or_103 : decode cX0_or 103 = .ok (.getfield 51, 3) := by decide +kernel
theorem dX0_or_106 : decode cX0_or 106 = .ok (.iaload, 1) := by decide +kernel
theorem dX0_or_107 : decode cX0_or 107 = .ok (.aload_n 0, 1) := by decide +kernel
theorem dX0_or_108 : decode cX0_or 108 = .ok (.getfield 58, 3) := by decide +kernel
theorem dX0_or_111 : decode cX0_or 111 = .ok (.iconst 1, 1) := by decide +kernel
theorem dX0_or_112 : decode cX0_or 112 = .ok (.iadd, 1) := by decide +kernel
theorem dX0_or_113 : decode cX0_or 113 = .ok (.invokevirtual 61, 3) := by decide +kernel
theorem dX0_or_116 : decode cX0_or 116 = .ok (.aload_n 0, 1) := by decide +kernel
theorem dX0_or_117 : decode cX0_or 117 = .ok (.getfield 25, 3) := by decide +kernel
theorem dX0_or_120 : decode cX0_or 120 = .ok (.aload_n 0, 1) := by decide +kernel
theorem dX0_or_121 : decode cX0_or 121 = .ok (.getfield 51, 3) := by decide +kernel
theorem dX0_or_124 : decode cX0_or 124 = .ok (.iconst 1, 1) := by decide +kernel
theorem dX0_or_125 : decode cX0_or 125 = .ok (.isub, 1) := by decide +kernel
theorem dX0_or_126 : decode cX0_or 126 = .ok (.aload_n 0, 1) := by decide +kernel
theorem dX0_or_127 : decode cX0_or 127 = .ok (.getfield 58, 3) := by decide +kernel
theorem dX0_or_130 : decode cX0_or 130 = .ok (.iastore, 1) := by decide +kernel
theorem dX0_or_131 : decode cX0_or 131 = .ok (.aload_n 0, 1) := by decide +kernel
theorem dX0_or_132 : decode cX0_or 132 = .ok (.getfield 28, 3) := by decide +kernel
theorem dX0_or_135 : decode cX0_or 135 = .ok (.aload_n 0, 1) := by decide +kernel
theorem dX0_or_136 : decode cX0_or 136 = .ok (.getfield 51, 3) := by decide +kernel
theorem dX0_or_139 : decode cX0_or 139 = .ok (.iconst 1, 1) := by decide +kernel
theorem dX0_or_140 : decode cX0_or 140 = .ok (.isub, 1) := by decide +kernel
theorem dX0_or_141 : decode cX0_or 141 = .ok (.aload_n 0, 1) := by decide +kernel
theorem dX0_or_142 : decode cX0_or 142 = .ok (.getfield 58, 3) := by decide +kernel
theorem dX0_or_145 : decode cX0_or 145 = .ok (.iconst 1, 1) := by decide +kernel
theorem dX0_or_146 : decode cX0_or 146 = .ok (.iadd, 1) := by decide +kernel
theorem dX0_or_147 : decode cX0_or 147 = .ok (.iastore, 1) := by decide +kernel
theorem dX0_or_148 : decode cX0_or 148 = .ok (.aload_n 0, 1) := by decide +kernel
theorem dX0_or_149 : decode cX0_or 149 = .ok (.dup, 1) := by decide +kernel
theorem dX0_or_150 : decode cX0_or 150 = .ok (.getfield 58, 3) := by decide +kernel
theorem dX0_or_153 : decode cX0_or 153 = .ok (.iconst 2, 1) := by decide +kernel
theorem dX0_or_154 : decode cX0_or 154 = .ok (.iadd, 1) := by decide +kernel
theorem dX0_or_155 : decode cX0_or 155 = .ok (.putfield 58, 3) := by decide +kernel
theorem dX0_or_158 : decode cX0_or 158 = .ok (.aload_n 0, 1) := by decide +kernel
theorem dX0_or_159 : decode cX0_or 159 = .ok (.getfield 51, 3) := by decide +kernel
theorem dX0_or_162 : decode cX0_or 162 = .ok (.ireturn, 1) := by decide +kernel
abbrev cX0_star : ByteArray := prog_1_method_13_code
def yX0_star : MethodName := ⟨RX0, "star", "()I"⟩
theorem dX0_star_0 : decode cX0_star 0 = .ok (.aload_n 0, 1) := by decide +kernel
theorem dX0_star_1 : decode cX0_star 1 = .ok (.iconst 1, 1) := by decide +kernel
theorem dX0_star_2 : decode cX0_star 2 = .ok (.invokevirtual 54, 3) := by decide +kernel
theorem dX0_star_5 : decode cX0_star 5 = .ok (.istore_n 1, 1) := by decide +kernel
theorem dX0_star_6 : decode cX0_star 6 = .ok (.iload_n 1, 1) := by decide +kernel
theorem dX0_star_7 : decode cX0_star 7 = .ok (.ifCond .eq 5, 3) := by decide +kernel
theorem dX0_star_10 : decode cX0_star 10 = .ok (.iload_n 1, 1) := by decide +kernel
theorem dX0_star_11 : decode cX0_star 11 = .ok (.ireturn, 1) := by decide +kernel
theorem dX0_star_12 : decode cX0_star 12 = .ok (.aload_n 0, 1) := by decide +kernel
theorem dX0_star_13 : decode cX0_star 13 = .ok (.dup, 1) := by decide +kernel
theorem dX0_star_14 : decode cX0_star 14 = .ok (.getfield 40, 3) := by decide +kernel
theorem dX0_star_17 : decode cX0_star 17 = .ok (.iconst 1, 1) := by decide +kernel
theorem dX0_star_18 : decode cX0_star 18 = .ok (.iadd, 1) := by decide +kernel
theorem dX0_star_19 : decode cX0_star 19 = .ok (.putfield 40, 3) := by decide +kernel
theorem dX0_star_22 : decode cX0_star 22 = .ok (.aload_n 0, 1) := by decide +kernel
theorem dX0_star_23 : decode cX0_star 23 = .ok (.getfield 25, 3) := by decide +kernel
theorem dX0_star_26 : decode cX0_star 26 = .ok (.aload_n 0, 1) := by decide +kernel
theorem dX0_star_27 : decode cX0_star 27 = .ok (.getfield 51, 3) := by decide +kernel
theorem dX0_star_30 : decode cX0_star 30 = .ok (.iconst 1, 1) := by decide +kernel
theorem dX0_star_31 : decode cX0_star 31 = .ok (.isub, 1) := by decide +kernel
theorem dX0_star_32 : decode cX0_star 32 = .ok (.iaload, 1) := by decide +kernel
theorem dX0_star_33 : decode cX0_star 33 = .ok (.istore_n 2, 1) := by decide +kernel
theorem dX0_star_34 : decode cX0_star 34 = .ok (.aload_n 0, 1) := by decide +kernel
theorem dX0_star_35 : decode cX0_star 35 = .ok (.getfield 28, 3) := by decide +kernel
theorem dX0_star_38 : decode cX0_star 38 = .ok (.aload_n 0, 1) := by decide +kernel
theorem dX0_star_39 : decode cX0_star 39 = .ok (.getfield 51, 3) := by decide +kernel
theorem dX0_star_42 : decode cX0_star 42 = .ok (.iconst 1, 1) := by decide +kernel
theorem dX0_star_43 : decode cX0_star 43 = .ok (.isub, 1) := by decide +kernel
theorem dX0_star_44 : decode cX0_star 44 = .ok (.iaload, 1) := by decide +kernel
theorem dX0_star_45 : decode cX0_star 45 = .ok (.istore_n 3, 1) := by decide +kernel
theorem dX0_star_46 : decode cX0_star 46 = .ok (.aload_n 0, 1) := by decide +kernel
theorem dX0_star_47 : decode cX0_star 47 = .ok (.bipush 6, 2) := by decide +kernel
theorem dX0_star_49 : decode cX0_star 49 = .ok (.aload_n 0, 1) := by decide +kernel
theorem dX0_star_50 : decode cX0_star 50 = .ok (.getfield 58, 3) := by decide +kernel
theorem dX0_star_53 : decode cX0_star 53 = .ok (.iload_n 2, 1) := by decide +kernel
theorem dX0_star_54 : decode cX0_star 54 = .ok (.invokevirtual 61, 3) := by decide +kernel
theorem dX0_star_57 : decode cX0_star 57 = .ok (.aload_n 0, 1) := by decide +kernel
theorem dX0_star_58 : decode cX0_star 58 = .ok (.bipush 6, 2) := by decide +kernel
theorem dX0_star_60 : decode cX0_star 60 = .ok (.iload_n 3, 1) := by decide +kernel
theorem dX0_star_61 : decode cX0_star 61 = .ok (.aload_n 0, 1) := by decide +kernel
theorem dX0_star_62 : decode cX0_star 62 = .ok (.getfield 58, 3) := by decide +kernel
theorem dX0_star_65 : decode cX0_star 65 = .ok (.iconst 1, 1) := by decide +kernel
theorem dX0_star_66 : decode cX0_star 66 = .ok (.iadd, 1) := by decide +kernel
theorem dX0_star_67 : decode cX0_star 67 = .ok (.invokevirtual 61, 3) := by decide +kernel
theorem dX0_star_70 : decode cX0_star 70 = .ok (.aload_n 0, 1) := by decide +kernel
theorem dX0_star_71 : decode cX0_star 71 = .ok (.bipush 6, 2) := by decide +kernel
theorem dX0_star_73 : decode cX0_star 73 = .ok (.iload_n 3, 1) := by decide +kernel
theorem dX0_star_74 : decode cX0_star 74 = .ok (.iload_n 2, 1) := by decide +kernel
theorem dX0_star_75 : decode cX0_star 75 = .ok (.invokevirtual 61, 3) := by decide +kernel
theorem dX0_star_78 : decode cX0_star 78 = .ok (.aload_n 0, 1) := by decide +kernel
theorem dX0_star_79 : decode cX0_star 79 = .ok (.bipush 6, 2) := by decide +kernel
theorem dX0_star_81 : decode cX0_star 81 = .ok (.aload_n 0, 1) := by decide +kernel
theorem dX0_star_82 : decode cX0_star 82 = .ok (.getfield 58, 3) := by decide +kernel
theorem dX0_star_85 : decode cX0_star 85 = .ok (.aload_n 0, 1) := by decide +kernel
theorem dX0_star_86 : decode cX0_star 86 = .ok (.getfield 58, 3) := by decide +kernel
theorem dX0_star_89 : decode cX0_star 89 = .ok (.iconst 1, 1) := by decide +kernel
theorem dX0_star_90 : decode cX0_star 90 = .ok (.iadd, 1) := by decide +kernel
theorem dX0_star_91 : decode cX0_star 91 = .ok (.invokevirtual 61, 3) := by decide +kernel
theorem dX0_star_94 : decode cX0_star 94 = .ok (.aload_n 0, 1) := by decide +kernel
theorem dX0_star_95 : decode cX0_star 95 = .ok (.getfield 25, 3) := by decide +kernel
theorem dX0_star_98 : decode cX0_star 98 = .ok (.aload_n 0, 1) := by decide +kernel
theorem dX0_star_99 : decode cX0_star 99 = .ok (.getfield 51, 3) := by decide +kernel
theorem dX0_star_102 : decode cX0_star 102 = .ok (.iconst 1, 1) := by decide +kernel
theorem dX0_star_103 : decode cX0_star 103 = .ok (.isub, 1) := by decide +kernel
theorem dX0_star_104 : decode cX0_star 104 = .ok (.aload_n 0, 1) := by decide +kernel
theorem dX0_star_105 : decode cX0_star 105 = .ok (.getfield 58, 3) := by decide +kernel
theorem dX0_star_108 : decode cX0_star 108 = .ok (.iastore, 1) := by decide +kernel
theorem dX0_star_109 : decode cX0_star 109 = .ok (.aload_n 0, 1) := by decide +kernel
theorem dX0_star_110 : decode cX0_star 110 = .ok (.getfield 28, 3) := by decide +kernel
theorem dX0_star_113 : decode cX0_star 113 = .ok (.aload_n 0, 1) := by decide +kernel
theorem dX0_star_114 : decode cX0_star 114 = .ok (.getfield 51, 3) := by decide +kernel
theorem dX0_star_117 : decode cX0_star 117 = .ok (.iconst 1, 1) := by decide +kernel
theorem dX0_star_118 : decode cX0_star 118 = .ok (.isub, 1) := by decide +kernel
theorem dX0_star_119 : decode cX0_star 119 = .ok (.aload_n 0, 1) := by decide +kernel
theorem dX0_star_120 : decode cX0_star 120 = .ok (.getfield 58, 3) := by decide +kernel
theorem dX0_star_123 : decode cX0_star 123 = .ok (.iconst 1, 1) := by decide +kernel
theorem dX0_star_124 : decode cX0_star 124 = .ok (.iadd, 1) := by decide +kernel
theorem dX0_star_125 : decode cX0_star 125 = .ok (.iastore, 1) := by decide +kernel
theorem dX0_star_126 : decode cX0_star 126 = .ok (.aload_n 0, 1) := by decide +kernel
theorem dX0_star_127 : decode cX0_star 127 = .ok (.dup, 1) := by decide +kernel
theorem dX0_star_128 : decode cX0_star 128 = .ok (.getfield 58, 3) := by decide +kernel
theorem dX0_star_131 : decode cX0_star 131 = .ok (.iconst 2, 1) := by decide +kernel
theorem dX0_star_132 : decode cX0_star 132 = .ok (.iadd, 1) := by decide +kernel
theorem dX0_star_133 : decode cX0_star 133 = .ok (.putfield 58, 3) := by decide +kernel
theorem dX0_star_136 : decode cX0_star 136 = .ok (.aload_n 0, 1) := by decide +kernel
theorem dX0_star_137 : decode cX0_star 137 = .ok (.getfield 51, 3) := by decide +kernel
theorem dX0_star_140 : decode cX0_star 140 = .ok (.ireturn, 1) := by decide +kernel
abbrev cX0_clear : ByteArray := prog_1_method_14_code
def yX0_clear : MethodName := ⟨RX0, "clear", "()V"⟩
theorem dX0_clear_0 : decode cX0_clear 0 = .ok (.aload_n 0, 1) := by decide +kernel
theorem dX0_clear_1 : decode cX0_clear 1 = .ok (.iconst 0, 1) := by decide +kernel
theorem dX0_clear_2 : decode cX0_clear 2 = .ok (.putfield 40, 3) := by decide +kernel
theorem dX0_clear_5 : decode cX0_clear 5 = .ok (.aload_n 0, 1) := by decide +kernel
theorem dX0_clear_6 : decode cX0_clear 6 = .ok (.iconst 0, 1) := by decide +kernel
theorem dX0_clear_7 : decode cX0_clear 7 = .ok (.putfield 58, 3) := by decide +kernel
theorem dX0_clear_10 : decode cX0_clear 10 = .ok (.aload_n 0, 1) := by decide +kernel
theorem dX0_clear_11 : decode cX0_clear 11 = .ok (.iconst 0, 1) := by decide +kernel
theorem dX0_clear_12 : decode cX0_clear 12 = .ok (.putfield 48, 3) := by decide +kernel
theorem dX0_clear_15 : decode cX0_clear 15 = .ok (.aload_n 0, 1) := by decide +kernel
theorem dX0_clear_16 : decode cX0_clear 16 = .ok (.iconst 0, 1) := by decide +kernel
theorem dX0_clear_17 : decode cX0_clear 17 = .ok (.putfield 51, 3) := by decide +kernel
theorem dX0_clear_20 : decode cX0_clear 20 = .ok (.return_, 1) := by decide +kernel
abbrev cX0_leads : ByteArray := prog_1_method_22_code
def yX0_leads : MethodName := ⟨RX0, "leads", "(II)Z"⟩
theorem dX0_leads_0 : decode cX0_leads 0 = .ok (.iload_n 1, 1) := by decide +kernel
theorem dX0_leads_1 : decode cX0_leads 1 = .ok (.invokestatic 91, 3) := by decide +kernel
theorem dX0_leads_4 : decode cX0_leads 4 = .ok (.ifCond .ne 10, 3) := by decide +kernel
theorem dX0_leads_7 : decode cX0_leads 7 = .ok (.iload_n 2, 1) := by decide +kernel
theorem dX0_leads_8 : decode cX0_leads 8 = .ok (.invokestatic 91, 3) := by decide +kernel
theorem dX0_leads_11 : decode cX0_leads 11 = .ok (.ifCond .eq 5, 3) := by decide +kernel
theorem dX0_leads_14 : decode cX0_leads 14 = .ok (.iconst 0, 1) := by decide +kernel
theorem dX0_leads_15 : decode cX0_leads 15 = .ok (.ireturn, 1) := by decide +kernel
theorem dX0_leads_16 : decode cX0_leads 16 = .ok (.aload_n 0, 1) := by decide +kernel
theorem dX0_leads_17 : decode cX0_leads 17 = .ok (.iload_n 1, 1) := by decide +kernel
theorem dX0_leads_18 : decode cX0_leads 18 = .ok (.invokevirtual 94, 3) := by decide +kernel
theorem dX0_leads_21 : decode cX0_leads 21 = .ok (.aload_n 0, 1) := by decide +kernel
theorem dX0_leads_22 : decode cX0_leads 22 = .ok (.iload_n 2, 1) := by decide +kernel
theorem dX0_leads_23 : decode cX0_leads 23 = .ok (.invokevirtual 97, 3) := by decide +kernel
theorem dX0_leads_26 : decode cX0_leads 26 = .ok (.istore_n 3, 1) := by decide +kernel
theorem dX0_leads_27 : decode cX0_leads 27 = .ok (.iload_n 3, 1) := by decide +kernel
theorem dX0_leads_28 : decode cX0_leads 28 = .ok (.ifCond .lt 7, 3) := by decide +kernel
theorem dX0_leads_31 : decode cX0_leads 31 = .ok (.iconst 1, 1) := by decide +kernel
theorem dX0_leads_32 : decode cX0_leads 32 = .ok (.goto 4, 3) := by decide +kernel
theorem dX0_leads_35 : decode cX0_leads 35 = .ok (.iconst 0, 1) := by decide +kernel
theorem dX0_leads_36 : decode cX0_leads 36 = .ok (.ireturn, 1) := by decide +kernel
abbrev cX0_badNode : ByteArray := prog_1_method_2_code
def yX0_badNode : MethodName := ⟨RX0, "badNode", "(I)Z"⟩
theorem dX0_badNode_0 : decode cX0_badNode 0 = .ok (.iload_n 0, 1) := by decide +kernel
theorem dX0_badNode_1 : decode cX0_badNode 1 = .ok (.ifCond .lt 9, 3) := by decide +kernel
theorem dX0_badNode_4 : decode cX0_badNode 4 = .ok (.iload_n 0, 1) := by decide +kernel
theorem dX0_badNode_5 : decode cX0_badNode 5 = .ok (.bipush 8, 2) := by decide +kernel
theorem dX0_badNode_7 : decode cX0_badNode 7 = .ok (.if_icmp .lt 7, 3) := by decide +kernel
theorem dX0_badNode_10 : decode cX0_badNode 10 = .ok (.iconst 1, 1) := by decide +kernel
theorem dX0_badNode_11 : decode cX0_badNode 11 = .ok (.goto 4, 3) := by decide +kernel
theorem dX0_badNode_14 : decode cX0_badNode 14 = .ok (.iconst 0, 1) := by decide +kernel
theorem dX0_badNode_15 : decode cX0_badNode 15 = .ok (.ireturn, 1) := by decide +kernel
end
section
set_option maxRecDepth 100000
abbrev cX0_search : ByteArray := prog_1_method_20_code
def yX0_search : MethodName := ⟨RX0, "search", "(I)V"⟩
theorem dX0_search_0 : decode cX0_search 0 = .ok (.iconst 0, 1) := by decide +kernel
theorem dX0_search_1 : decode cX0_search 1 = .ok (.istore_n 2, 1) := by decide +kernel
theorem dX0_search_2 : decode cX0_search 2 = .ok (.iload_n 2, 1) := by decide +kernel
theorem dX0_search_3 : decode cX0_search 3 = .ok (.sipush 224, 3) := by decide +kernel
theorem dX0_search_6 : decode cX0_search 6 = .ok (.if_icmp .ge 16, 3) := by decide +kernel
theorem dX0_search_9 : decode cX0_search 9 = .ok (.aload_n 0, 1) := by decide +kernel
theorem dX0_search_10 : decode cX0_search 10 = .ok (.getfield 31, 3) := by decide +kernel
theorem dX0_search_13 : decode cX0_search 13 = .ok (.iload_n 2, 1) := by decide +kernel
theorem dX0_search_14 : decode cX0_search 14 = .ok (.iconst (-1), 1) := by decide +kernel
theorem dX0_search_15 : decode cX0_search 15 = .ok (.iastore, 1) := by decide +kernel
theorem dX0_search_16 : decode cX0_search 16 = .ok (.iinc 2 1, 3) := by decide +kernel
theorem dX0_search_19 : decode cX0_search 19 = .ok (.goto (-17), 3) := by decide +kernel
theorem dX0_search_22 : decode cX0_search 22 = .ok (.aload_n 0, 1) := by decide +kernel
theorem dX0_search_23 : decode cX0_search 23 = .ok (.getfield 51, 3) := by decide +kernel
theorem dX0_search_26 : decode cX0_search 26 = .ok (.ifCond .ne 4, 3) := by decide +kernel
theorem dX0_search_29 : decode cX0_search 29 = .ok (.return_, 1) := by decide +kernel
theorem dX0_search_30 : decode cX0_search 30 = .ok (.aload_n 0, 1) := by decide +kernel
theorem dX0_search_31 : decode cX0_search 31 = .ok (.iconst 0, 1) := by decide +kernel
theorem dX0_search_32 : decode cX0_search 32 = .ok (.putfield 68, 3) := by decide +kernel
theorem dX0_search_35 : decode cX0_search 35 = .ok (.aload_n 0, 1) := by decide +kernel
theorem dX0_search_36 : decode cX0_search 36 = .ok (.aload_n 0, 1) := by decide +kernel
theorem dX0_search_37 : decode cX0_search 37 = .ok (.getfield 25, 3) := by decide +kernel
theorem dX0_search_40 : decode cX0_search 40 = .ok (.aload_n 0, 1) := by decide +kernel
theorem dX0_search_41 : decode cX0_search 41 = .ok (.getfield 51, 3) := by decide +kernel
theorem dX0_search_44 : decode cX0_search 44 = .ok (.iconst 1, 1) := by decide +kernel
theorem dX0_search_45 : decode cX0_search 45 = .ok (.isub, 1) := by decide +kernel
theorem dX0_search_46 : decode cX0_search 46 = .ok (.iaload, 1) := by decide +kernel
theorem dX0_search_47 : decode cX0_search 47 = .ok (.iload_n 1, 1) := by decide +kernel
theorem dX0_search_48 : decode cX0_search 48 = .ok (.iconst 0, 1) := by decide +kernel
theorem dX0_search_49 : decode cX0_search 49 = .ok (.invokevirtual 77, 3) := by decide +kernel
theorem dX0_search_52 : decode cX0_search 52 = .ok (.iconst 0, 1) := by decide +kernel
theorem dX0_search_53 : decode cX0_search 53 = .ok (.istore_n 2, 1) := by decide +kernel
theorem dX0_search_54 : decode cX0_search 54 = .ok (.iload_n 2, 1) := by decide +kernel
theorem dX0_search_55 : decode cX0_search 55 = .ok (.sipush 224, 3) := by decide +kernel
theorem dX0_search_58 : decode cX0_search 58 = .ok (.if_icmp .gt 67, 3) := by decide +kernel
theorem dX0_search_61 : decode cX0_search 61 = .ok (.aload_n 0, 1) := by decide +kernel
theorem dX0_search_62 : decode cX0_search 62 = .ok (.getfield 68, 3) := by decide +kernel
theorem dX0_search_65 : decode cX0_search 65 = .ok (.ifCond .le 60, 3) := by decide +kernel
theorem dX0_search_68 : decode cX0_search 68 = .ok (.aload_n 0, 1) := by decide +kernel
theorem dX0_search_69 : decode cX0_search 69 = .ok (.iload_n 2, 1) := by decide +kernel
theorem dX0_search_70 : decode cX0_search 70 = .ok (.invokevirtual 87, 3) := by decide +kernel
theorem dX0_search_73 : decode cX0_search 73 = .ok (.aload_n 0, 1) := by decide +kernel
theorem dX0_search_74 : decode cX0_search 74 = .ok (.iconst 0, 1) := by decide +kernel
theorem dX0_search_75 : decode cX0_search 75 = .ok (.putfield 68, 3) := by decide +kernel
theorem dX0_search_78 : decode cX0_search 78 = .ok (.iconst 0, 1) := by decide +kernel
theorem dX0_search_79 : decode cX0_search 79 = .ok (.istore_n 3, 1) := by decide +kernel
theorem dX0_search_80 : decode cX0_search 80 = .ok (.iload_n 3, 1) := by decide +kernel
theorem dX0_search_81 : decode cX0_search 81 = .ok (.aload_n 0, 1) := by decide +kernel
theorem dX0_search_82 : decode cX0_search 82 = .ok (.getfield 71, 3) := by decide +kernel
theorem dX0_search_85 : decode cX0_search 85 = .ok (.if_icmp .ge 34, 3) := by decide +kernel
theorem dX0_search_88 : decode cX0_search 88 = .ok (.aload_n 0, 1) := by decide +kernel
theorem dX0_search_89 : decode cX0_search 89 = .ok (.aload_n 0, 1) := by decide +kernel
theorem dX0_search_90 : decode cX0_search 90 = .ok (.getfield 37, 3) := by decide +kernel
theorem dX0_search_93 : decode cX0_search 93 = .ok (.iload_n 3, 1) := by decide +kernel
theorem dX0_search_94 : decode cX0_search 94 = .ok (.iaload, 1) := by decide +kernel
theorem dX0_search_95 : decode cX0_search 95 = .ok (.bipush 8, 2) := by decide +kernel
theorem dX0_search_97 : decode cX0_search 97 = .ok (.idiv, 1) := by decide +kernel
theorem dX0_search_98 : decode cX0_search 98 = .ok (.aload_n 0, 1) := by decide +kernel
theorem dX0_search_99 : decode cX0_search 99 = .ok (.getfield 37, 3) := by decide +kernel
theorem dX0_search_102 : decode cX0_search 102 = .ok (.iload_n 3, 1) := by decide +kernel
theorem dX0_search_103 : decode cX0_search 103 = .ok (.iaload, 1) := by decide +kernel
theorem dX0_search_104 : decode cX0_search 104 = .ok (.bipush 8, 2) := by decide +kernel
theorem dX0_search_106 : decode cX0_search 106 = .ok (.irem, 1) := by decide +kernel
theorem dX0_search_107 : decode cX0_search 107 = .ok (.iload_n 2, 1) := by decide +kernel
theorem dX0_search_108 : decode cX0_search 108 = .ok (.iconst 1, 1) := by decide +kernel
theorem dX0_search_109 : decode cX0_search 109 = .ok (.iadd, 1) := by decide +kernel
theorem dX0_search_110 : decode cX0_search 110 = .ok (.invokevirtual 77, 3) := by decide +kernel
theorem dX0_search_113 : decode cX0_search 113 = .ok (.iinc 3 1, 3) := by decide +kernel
theorem dX0_search_116 : decode cX0_search 116 = .ok (.goto (-36), 3) := by decide +kernel
theorem dX0_search_119 : decode cX0_search 119 = .ok (.iinc 2 1, 3) := by decide +kernel
theorem dX0_search_122 : decode cX0_search 122 = .ok (.goto (-68), 3) := by decide +kernel
theorem dX0_search_125 : decode cX0_search 125 = .ok (.return_, 1) := by decide +kernel
abbrev cX0_reachHere : ByteArray := prog_1_method_15_code
def yX0_reachHere : MethodName := ⟨RX0, "reachHere", "(III)V"⟩
theorem dX0_reachHere_0 : decode cX0_reachHere 0 = .ok (.iload_n 1, 1) := by decide +kernel
theorem dX0_reachHere_1 : decode cX0_reachHere 1 = .ok (.bipush 8, 2) := by decide +kernel
theorem dX0_reachHere_3 : decode cX0_reachHere 3 = .ok (.imul, 1) := by decide +kernel
theorem dX0_reachHere_4 : decode cX0_reachHere 4 = .ok (.iload_n 2, 1) := by decide +kernel
theorem dX0_reachHere_5 : decode cX0_reachHere 5 = .ok (.iadd, 1) := by decide +kernel
theorem dX0_reachHere_6 : decode cX0_reachHere 6 = .ok (.istore 4, 2) := by decide +kernel
theorem dX0_reachHere_8 : decode cX0_reachHere 8 = .ok (.aload_n 0, 1) := by decide +kernel
theorem dX0_reachHere_9 : decode cX0_reachHere 9 = .ok (.getfield 31, 3) := by decide +kernel
theorem dX0_reachHere_12 : decode cX0_reachHere 12 = .ok (.iload 4, 2) := by decide +kernel
theorem dX0_reachHere_14 : decode cX0_reachHere 14 = .ok (.iaload, 1) := by decide +kernel
theorem dX0_reachHere_15 : decode cX0_reachHere 15 = .ok (.ifCond .lt 4, 3) := by decide +kernel
theorem dX0_reachHere_18 : decode cX0_reachHere 18 = .ok (.return_, 1) := by decide +kernel
theorem dX0_reachHere_19 : decode cX0_reachHere 19 = .ok (.aload_n 0, 1) := by decide +kernel
theorem dX0_reachHere_20 : decode cX0_reachHere 20 = .ok (.getfield 31, 3) := by decide +kernel
theorem dX0_reachHere_23 : decode cX0_reachHere 23 = .ok (.iload 4, 2) := by decide +kernel
theorem dX0_reachHere_25 : decode cX0_reachHere 25 = .ok (.iload_n 3, 1) := by decide +kernel
theorem dX0_reachHere_26 : decode cX0_reachHere 26 = .ok (.iastore, 1) := by decide +kernel
theorem dX0_reachHere_27 : decode cX0_reachHere 27 = .ok (.aload_n 0, 1) := by decide +kernel
theorem dX0_reachHere_28 : decode cX0_reachHere 28 = .ok (.getfield 34, 3) := by decide +kernel
theorem dX0_reachHere_31 : decode cX0_reachHere 31 = .ok (.aload_n 0, 1) := by decide +kernel
theorem dX0_reachHere_32 : decode cX0_reachHere 32 = .ok (.getfield 68, 3) := by decide +kernel
theorem dX0_reachHere_35 : decode cX0_reachHere 35 = .ok (.iload 4, 2) := by decide +kernel
theorem dX0_reachHere_37 : decode cX0_reachHere 37 = .ok (.iastore, 1) := by decide +kernel
theorem dX0_reachHere_38 : decode cX0_reachHere 38 = .ok (.aload_n 0, 1) := by decide +kernel
theorem dX0_reachHere_39 : decode cX0_reachHere 39 = .ok (.dup, 1) := by decide +kernel
theorem dX0_reachHere_40 : decode cX0_reachHere 40 = .ok (.getfield 68, 3) := by decide +kernel
theorem dX0_reachHere_43 : decode cX0_reachHere 43 = .ok (.iconst 1, 1) := by decide +kernel
theorem dX0_reachHere_44 : decode cX0_reachHere 44 = .ok (.iadd, 1) := by decide +kernel
theorem dX0_reachHere_45 : decode cX0_reachHere 45 = .ok (.putfield 68, 3) := by decide +kernel
theorem dX0_reachHere_48 : decode cX0_reachHere 48 = .ok (.return_, 1) := by decide +kernel
abbrev cX0_workLevel : ByteArray := prog_1_method_19_code
def yX0_workLevel : MethodName := ⟨RX0, "workLevel", "(I)V"⟩
theorem dX0_workLevel_0 : decode cX0_workLevel 0 = .ok (.aload_n 0, 1) := by decide +kernel
theorem dX0_workLevel_1 : decode cX0_workLevel 1 = .ok (.iconst 0, 1) := by decide +kernel
theorem dX0_workLevel_2 : decode cX0_workLevel 2 = .ok (.putfield 71, 3) := by decide +kernel
theorem dX0_workLevel_5 : decode cX0_workLevel 5 = .ok (.iconst 0, 1) := by decide +kernel
theorem dX0_workLevel_6 : decode cX0_workLevel 6 = .ok (.istore_n 2, 1) := by decide +kernel
theorem dX0_workLevel_7 : decode cX0_workLevel 7 = .ok (.iload_n 2, 1) := by decide +kernel
theorem dX0_workLevel_8 : decode cX0_workLevel 8 = .ok (.aload_n 0, 1) := by decide +kernel
theorem dX0_workLevel_9 : decode cX0_workLevel 9 = .ok (.getfield 68, 3) := by decide +kernel
theorem dX0_workLevel_12 : decode cX0_workLevel 12 = .ok (.if_icmp .ge 68, 3) := by decide +kernel
theorem dX0_workLevel_15 : decode cX0_workLevel 15 = .ok (.aload_n 0, 1) := by decide +kernel
theorem dX0_workLevel_16 : decode cX0_workLevel 16 = .ok (.getfield 34, 3) := by decide +kernel
theorem dX0_workLevel_19 : decode cX0_workLevel 19 = .ok (.iload_n 2, 1) := by decide +kernel
theorem dX0_workLevel_20 : decode cX0_workLevel 20 = .ok (.iaload, 1) := by decide +kernel
theorem dX0_workLevel_21 : decode cX0_workLevel 21 = .ok (.bipush 8, 2) := by decide +kernel
theorem dX0_workLevel_23 : decode cX0_workLevel 23 = .ok (.idiv, 1) := by decide +kernel
theorem dX0_workLevel_24 : decode cX0_workLevel 24 = .ok (.istore_n 3, 1) := by decide +kernel
theorem dX0_workLevel_25 : decode cX0_workLevel 25 = .ok (.aload_n 0, 1) := by decide +kernel
theorem dX0_workLevel_26 : decode cX0_workLevel 26 = .ok (.getfield 34, 3) := by decide +kernel
theorem dX0_workLevel_29 : decode cX0_workLevel 29 = .ok (.iload_n 2, 1) := by decide +kernel
theorem dX0_workLevel_30 : decode cX0_workLevel 30 = .ok (.iaload, 1) := by decide +kernel
theorem dX0_workLevel_31 : decode cX0_workLevel 31 = .ok (.bipush 8, 2) := by decide +kernel
theorem dX0_workLevel_33 : decode cX0_workLevel 33 = .ok (.irem, 1) := by decide +kernel
theorem dX0_workLevel_34 : decode cX0_workLevel 34 = .ok (.istore 4, 2) := by decide +kernel
theorem dX0_workLevel_36 : decode cX0_workLevel 36 = .ok (.iconst 0, 1) := by decide +kernel
theorem dX0_workLevel_37 : decode cX0_workLevel 37 = .ok (.istore 5, 2) := by decide +kernel
theorem dX0_workLevel_39 : decode cX0_workLevel 39 = .ok (.iload 5, 2) := by decide +kernel
theorem dX0_workLevel_41 : decode cX0_workLevel 41 = .ok (.aload_n 0, 1) := by decide +kernel
theorem dX0_workLevel_42 : decode cX0_workLevel 42 = .ok (.getfield 48, 3) := by decide +kernel
theorem dX0_workLevel_45 : decode cX0_workLevel 45 = .ok (.if_icmp .ge 29, 3) := by decide +kernel
theorem dX0_workLevel_48 : decode cX0_workLevel 48 = .ok (.aload_n 0, 1) := by decide +kernel
theorem dX0_workLevel_49 : decode cX0_workLevel 49 = .ok (.getfield 19, 3) := by decide +kernel
theorem dX0_workLevel_52 : decode cX0_workLevel 52 = .ok (.iload 5, 2) := by decide +kernel
theorem dX0_workLevel_54 : decode cX0_workLevel 54 = .ok (.iaload, 1) := by decide +kernel
theorem dX0_workLevel_55 : decode cX0_workLevel 55 = .ok (.iload_n 3, 1) := by decide +kernel
theorem dX0_workLevel_56 : decode cX0_workLevel 56 = .ok (.if_icmp .ne 12, 3) := by decide +kernel
theorem dX0_workLevel_59 : decode cX0_workLevel 59 = .ok (.aload_n 0, 1) := by decide +kernel
theorem dX0_workLevel_60 : decode cX0_workLevel 60 = .ok (.iload 5, 2) := by decide +kernel
theorem dX0_workLevel_62 : decode cX0_workLevel 62 = .ok (.iload 4, 2) := by decide +kernel
theorem dX0_workLevel_64 : decode cX0_workLevel 64 = .ok (.iload_n 1, 1) := by decide +kernel
theorem dX0_workLevel_65 : decode cX0_workLevel 65 = .ok (.invokevirtual 84, 3) := by decide +kernel
theorem dX0_workLevel_68 : decode cX0_workLevel 68 = .ok (.iinc 5 1, 3) := by decide +kernel
theorem dX0_workLevel_71 : decode cX0_workLevel 71 = .ok (.goto (-32), 3) := by decide +kernel
theorem dX0_workLevel_74 : decode cX0_workLevel 74 = .ok (.iinc 2 1, 3) := by decide +kernel
theorem dX0_workLevel_77 : decode cX0_workLevel 77 = .ok (.goto (-70), 3) := by decide +kernel
theorem dX0_workLevel_80 : decode cX0_workLevel 80 = .ok (.return_, 1) := by decide +kernel
abbrev cX0_follow : ByteArray := prog_1_method_18_code
def yX0_follow : MethodName := ⟨RX0, "follow", "(III)V"⟩
theorem dX0_follow_0 : decode cX0_follow 0 = .ok (.aload_n 0, 1) := by decide +kernel
theorem dX0_follow_1 : decode cX0_follow 1 = .ok (.getfield 16, 3) := by decide +kernel
theorem dX0_follow_4 : decode cX0_follow 4 = .ok (.iload_n 1, 1) := by decide +kernel
theorem dX0_follow_5 : decode cX0_follow 5 = .ok (.iaload, 1) := by decide +kernel
theorem dX0_follow_6 : decode cX0_follow 6 = .ok (.istore 4, 2) := by decide +kernel
theorem dX0_follow_8 : decode cX0_follow 8 = .ok (.iload 4, 2) := by decide +kernel
theorem dX0_follow_10 : decode cX0_follow 10 = .ok (.bipush 6, 2) := by decide +kernel
theorem dX0_follow_12 : decode cX0_follow 12 = .ok (.if_icmp .eq 12, 3) := by decide +kernel
theorem dX0_follow_15 : decode cX0_follow 15 = .ok (.iload 4, 2) := by decide +kernel
theorem dX0_follow_17 : decode cX0_follow 17 = .ok (.bipush 7, 2) := by decide +kernel
theorem dX0_follow_19 : decode cX0_follow 19 = .ok (.iload_n 2, 1) := by decide +kernel
theorem dX0_follow_20 : decode cX0_follow 20 = .ok (.iadd, 1) := by decide +kernel
theorem dX0_follow_21 : decode cX0_follow 21 = .ok (.if_icmp .ne 18, 3) := by decide +kernel
theorem dX0_follow_24 : decode cX0_follow 24 = .ok (.aload_n 0, 1) := by decide +kernel
theorem dX0_follow_25 : decode cX0_follow 25 = .ok (.aload_n 0, 1) := by decide +kernel
theorem dX0_follow_26 : decode cX0_follow 26 = .ok (.getfield 22, 3) := by decide +kernel
theorem dX0_follow_29 : decode cX0_follow 29 = .ok (.iload_n 1, 1) := by decide +kernel
theorem dX0_follow_30 : decode cX0_follow 30 = .ok (.iaload, 1) := by decide +kernel
theorem dX0_follow_31 : decode cX0_follow 31 = .ok (.iload_n 2, 1) := by decide +kernel
theorem dX0_follow_32 : decode cX0_follow 32 = .ok (.iload_n 3, 1) := by decide +kernel
theorem dX0_follow_33 : decode cX0_follow 33 = .ok (.invokevirtual 77, 3) := by decide +kernel
theorem dX0_follow_36 : decode cX0_follow 36 = .ok (.goto 65, 3) := by decide +kernel
theorem dX0_follow_39 : decode cX0_follow 39 = .ok (.iload 4, 2) := by decide +kernel
theorem dX0_follow_41 : decode cX0_follow 41 = .ok (.iconst 3, 1) := by decide +kernel
theorem dX0_follow_42 : decode cX0_follow 42 = .ok (.if_icmp .ge 28, 3) := by decide +kernel
theorem dX0_follow_45 : decode cX0_follow 45 = .ok (.aload_n 0, 1) := by decide +kernel
theorem dX0_follow_46 : decode cX0_follow 46 = .ok (.aload_n 0, 1) := by decide +kernel
theorem dX0_follow_47 : decode cX0_follow 47 = .ok (.getfield 22, 3) := by decide +kernel
theorem dX0_follow_50 : decode cX0_follow 50 = .ok (.iload_n 1, 1) := by decide +kernel
theorem dX0_follow_51 : decode cX0_follow 51 = .ok (.iaload, 1) := by decide +kernel
theorem dX0_follow_52 : decode cX0_follow 52 = .ok (.aload_n 0, 1) := by decide +kernel
theorem dX0_follow_53 : decode cX0_follow 53 = .ok (.getfield 7, 3) := by decide +kernel
theorem dX0_follow_56 : decode cX0_follow 56 = .ok (.iload 4, 2) := by decide +kernel
theorem dX0_follow_58 : decode cX0_follow 58 = .ok (.bipush 8, 2) := by decide +kernel
theorem dX0_follow_60 : decode cX0_follow 60 = .ok (.imul, 1) := by decide +kernel
theorem dX0_follow_61 : decode cX0_follow 61 = .ok (.iload_n 2, 1) := by decide +kernel
theorem dX0_follow_62 : decode cX0_follow 62 = .ok (.iadd, 1) := by decide +kernel
theorem dX0_follow_63 : decode cX0_follow 63 = .ok (.iaload, 1) := by decide +kernel
theorem dX0_follow_64 : decode cX0_follow 64 = .ok (.invokevirtual 80, 3) := by decide +kernel
theorem dX0_follow_67 : decode cX0_follow 67 = .ok (.goto 34, 3) := by decide +kernel
theorem dX0_follow_70 : decode cX0_follow 70 = .ok (.iload 4, 2) := by decide +kernel
theorem dX0_follow_72 : decode cX0_follow 72 = .ok (.bipush 6, 2) := by decide +kernel
theorem dX0_follow_74 : decode cX0_follow 74 = .ok (.if_icmp .ge 27, 3) := by decide +kernel
theorem dX0_follow_77 : decode cX0_follow 77 = .ok (.aload_n 0, 1) := by decide +kernel
theorem dX0_follow_78 : decode cX0_follow 78 = .ok (.aload_n 0, 1) := by decide +kernel
theorem dX0_follow_79 : decode cX0_follow 79 = .ok (.getfield 22, 3) := by decide +kernel
theorem dX0_follow_82 : decode cX0_follow 82 = .ok (.iload_n 1, 1) := by decide +kernel
theorem dX0_follow_83 : decode cX0_follow 83 = .ok (.iaload, 1) := by decide +kernel
theorem dX0_follow_84 : decode cX0_follow 84 = .ok (.aload_n 0, 1) := by decide +kernel
theorem dX0_follow_85 : decode cX0_follow 85 = .ok (.getfield 13, 3) := by decide +kernel
theorem dX0_follow_88 : decode cX0_follow 88 = .ok (.iload 4, 2) := by decide +kernel
theorem dX0_follow_90 : decode cX0_follow 90 = .ok (.iconst 3, 1) := by decide +kernel
theorem dX0_follow_91 : decode cX0_follow 91 = .ok (.isub, 1) := by decide +kernel
theorem dX0_follow_92 : decode cX0_follow 92 = .ok (.bipush 8, 2) := by decide +kernel
theorem dX0_follow_94 : decode cX0_follow 94 = .ok (.imul, 1) := by decide +kernel
theorem dX0_follow_95 : decode cX0_follow 95 = .ok (.iload_n 2, 1) := by decide +kernel
theorem dX0_follow_96 : decode cX0_follow 96 = .ok (.iadd, 1) := by decide +kernel
theorem dX0_follow_97 : decode cX0_follow 97 = .ok (.iaload, 1) := by decide +kernel
theorem dX0_follow_98 : decode cX0_follow 98 = .ok (.invokevirtual 80, 3) := by decide +kernel
theorem dX0_follow_101 : decode cX0_follow 101 = .ok (.return_, 1) := by decide +kernel
abbrev cX0_keepComing : ByteArray := prog_1_method_16_code
def yX0_keepComing : MethodName := ⟨RX0, "keepComing", "(II)V"⟩
theorem dX0_keepComing_0 : decode cX0_keepComing 0 = .ok (.iconst 0, 1) := by decide +kernel
theorem dX0_keepComing_1 : decode cX0_keepComing 1 = .ok (.istore_n 3, 1) := by decide +kernel
theorem dX0_keepComing_2 : decode cX0_keepComing 2 = .ok (.iload_n 3, 1) := by decide +kernel
theorem dX0_keepComing_3 : decode cX0_keepComing 3 = .ok (.bipush 8, 2) := by decide +kernel
theorem dX0_keepComing_5 : decode cX0_keepComing 5 = .ok (.if_icmp .ge 80, 3) := by decide +kernel
theorem dX0_keepComing_8 : decode cX0_keepComing 8 = .ok (.iload_n 1, 1) := by decide +kernel
theorem dX0_keepComing_9 : decode cX0_keepComing 9 = .ok (.bipush 8, 2) := by decide +kernel
theorem dX0_keepComing_11 : decode cX0_keepComing 11 = .ok (.imul, 1) := by decide +kernel
theorem dX0_keepComing_12 : decode cX0_keepComing 12 = .ok (.iload_n 3, 1) := by decide +kernel
theorem dX0_keepComing_13 : decode cX0_keepComing 13 = .ok (.iadd, 1) := by decide +kernel
theorem dX0_keepComing_14 : decode cX0_keepComing 14 = .ok (.istore 4, 2) := by decide +kernel
theorem dX0_keepComing_16 : decode cX0_keepComing 16 = .ok (.iload_n 2, 1) := by decide +kernel
theorem dX0_keepComing_17 : decode cX0_keepComing 17 = .ok (.iload_n 3, 1) := by decide +kernel
theorem dX0_keepComing_18 : decode cX0_keepComing 18 = .ok (.ishr, 1) := by decide +kernel
theorem dX0_keepComing_19 : decode cX0_keepComing 19 = .ok (.iconst 1, 1) := by decide +kernel
theorem dX0_keepComing_20 : decode cX0_keepComing 20 = .ok (.iand, 1) := by decide +kernel
theorem dX0_keepComing_21 : decode cX0_keepComing 21 = .ok (.iconst 1, 1) := by decide +kernel
theorem dX0_keepComing_22 : decode cX0_keepComing 22 = .ok (.if_icmp .ne 57, 3) := by decide +kernel
theorem dX0_keepComing_25 : decode cX0_keepComing 25 = .ok (.aload_n 0, 1) := by decide +kernel
theorem dX0_keepComing_26 : decode cX0_keepComing 26 = .ok (.getfield 31, 3) := by decide +kernel
theorem dX0_keepComing_29 : decode cX0_keepComing 29 = .ok (.iload 4, 2) := by decide +kernel
theorem dX0_keepComing_31 : decode cX0_keepComing 31 = .ok (.iaload, 1) := by decide +kernel
theorem dX0_keepComing_32 : decode cX0_keepComing 32 = .ok (.ifCond .ge 47, 3) := by decide +kernel
theorem dX0_keepComing_35 : decode cX0_keepComing 35 = .ok (.aload_n 0, 1) := by decide +kernel
theorem dX0_keepComing_36 : decode cX0_keepComing 36 = .ok (.getfield 71, 3) := by decide +kernel
theorem dX0_keepComing_39 : decode cX0_keepComing 39 = .ok (.sipush 224, 3) := by decide +kernel
theorem dX0_keepComing_42 : decode cX0_keepComing 42 = .ok (.if_icmp .ge 37, 3) := by decide +kernel
theorem dX0_keepComing_45 : decode cX0_keepComing 45 = .ok (.aload_n 0, 1) := by decide +kernel
theorem dX0_keepComing_46 : decode cX0_keepComing 46 = .ok (.iload 4, 2) := by decide +kernel
theorem dX0_keepComing_48 : decode cX0_keepComing 48 = .ok (.invokevirtual 74, 3) := by decide +kernel
theorem dX0_keepComing_51 : decode cX0_keepComing 51 = .ok (.istore 5, 2) := by decide +kernel
theorem dX0_keepComing_53 : decode cX0_keepComing 53 = .ok (.iload 5, 2) := by decide +kernel
theorem dX0_keepComing_55 : decode cX0_keepComing 55 = .ok (.ifCond .ne 24, 3) := by decide +kernel
theorem dX0_keepComing_58 : decode cX0_keepComing 58 = .ok (.aload_n 0, 1) := by decide +kernel
theorem dX0_keepComing_59 : decode cX0_keepComing 59 = .ok (.getfield 37, 3) := by decide +kernel
theorem dX0_keepComing_62 : decode cX0_keepComing 62 = .ok (.aload_n 0, 1) := by decide +kernel
theorem dX0_keepComing_63 : decode cX0_keepComing 63 = .ok (.getfield 71, 3) := by decide +kernel
theorem dX0_keepComing_66 : decode cX0_keepComing 66 = .ok (.iload 4, 2) := by decide +kernel
theorem dX0_keepComing_68 : decode cX0_keepComing 68 = .ok (.iastore, 1) := by decide +kernel
theorem dX0_keepComing_69 : decode cX0_keepComing 69 = .ok (.aload_n 0, 1) := by decide +kernel
theorem dX0_keepComing_70 : decode cX0_keepComing 70 = .ok (.dup, 1) := by decide +kernel
theorem dX0_keepComing_71 : decode cX0_keepComing 71 = .ok (.getfield 71, 3) := by decide +kernel
theorem dX0_keepComing_74 : decode cX0_keepComing 74 = .ok (.iconst 1, 1) := by decide +kernel
theorem dX0_keepComing_75 : decode cX0_keepComing 75 = .ok (.iadd, 1) := by decide +kernel
theorem dX0_keepComing_76 : decode cX0_keepComing 76 = .ok (.putfield 71, 3) := by decide +kernel
theorem dX0_keepComing_79 : decode cX0_keepComing 79 = .ok (.iinc 3 1, 3) := by decide +kernel
theorem dX0_keepComing_82 : decode cX0_keepComing 82 = .ok (.goto (-80), 3) := by decide +kernel
theorem dX0_keepComing_85 : decode cX0_keepComing 85 = .ok (.return_, 1) := by decide +kernel
abbrev cX0_isComing : ByteArray := prog_1_method_17_code
def yX0_isComing : MethodName := ⟨RX0, "isComing", "(I)Z"⟩
theorem dX0_isComing_0 : decode cX0_isComing 0 = .ok (.iconst 0, 1) := by decide +kernel
theorem dX0_isComing_1 : decode cX0_isComing 1 = .ok (.istore_n 2, 1) := by decide +kernel
theorem dX0_isComing_2 : decode cX0_isComing 2 = .ok (.iload_n 2, 1) := by decide +kernel
theorem dX0_isComing_3 : decode cX0_isComing 3 = .ok (.aload_n 0, 1) := by decide +kernel
theorem dX0_isComing_4 : decode cX0_isComing 4 = .ok (.getfield 71, 3) := by decide +kernel
theorem dX0_isComing_7 : decode cX0_isComing 7 = .ok (.if_icmp .ge 21, 3) := by decide +kernel
theorem dX0_isComing_10 : decode cX0_isComing 10 = .ok (.aload_n 0, 1) := by decide +kernel
theorem dX0_isComing_11 : decode cX0_isComing 11 = .ok (.getfield 37, 3) := by decide +kernel
theorem dX0_isComing_14 : decode cX0_isComing 14 = .ok (.iload_n 2, 1) := by decide +kernel
theorem dX0_isComing_15 : decode cX0_isComing 15 = .ok (.iaload, 1) := by decide +kernel
theorem dX0_isComing_16 : decode cX0_isComing 16 = .ok (.iload_n 1, 1) := by decide +kernel
theorem dX0_isComing_17 : decode cX0_isComing 17 = .ok (.if_icmp .ne 5, 3) := by decide +kernel
theorem dX0_isComing_20 : decode cX0_isComing 20 = .ok (.iconst 1, 1) := by decide +kernel
theorem dX0_isComing_21 : decode cX0_isComing 21 = .ok (.ireturn, 1) := by decide +kernel
theorem dX0_isComing_22 : decode cX0_isComing 22 = .ok (.iinc 2 1, 3) := by decide +kernel
theorem dX0_isComing_25 : decode cX0_isComing 25 = .ok (.goto (-23), 3) := by decide +kernel
theorem dX0_isComing_28 : decode cX0_isComing 28 = .ok (.iconst 0, 1) := by decide +kernel
theorem dX0_isComing_29 : decode cX0_isComing 29 = .ok (.ireturn, 1) := by decide +kernel
abbrev cX0_lengthTo : ByteArray := prog_1_method_21_code
def yX0_lengthTo : MethodName := ⟨RX0, "lengthTo", "(I)I"⟩
theorem dX0_lengthTo_0 : decode cX0_lengthTo 0 = .ok (.aload_n 0, 1) := by decide +kernel
theorem dX0_lengthTo_1 : decode cX0_lengthTo 1 = .ok (.getfield 51, 3) := by decide +kernel
theorem dX0_lengthTo_4 : decode cX0_lengthTo 4 = .ok (.ifCond .ne 7, 3) := by decide +kernel
theorem dX0_lengthTo_7 : decode cX0_lengthTo 7 = .ok (.iconst (-1), 1) := by decide +kernel
theorem dX0_lengthTo_8 : decode cX0_lengthTo 8 = .ok (.goto 24, 3) := by decide +kernel
theorem dX0_lengthTo_11 : decode cX0_lengthTo 11 = .ok (.aload_n 0, 1) := by decide +kernel
theorem dX0_lengthTo_12 : decode cX0_lengthTo 12 = .ok (.getfield 31, 3) := by decide +kernel
theorem dX0_lengthTo_15 : decode cX0_lengthTo 15 = .ok (.aload_n 0, 1) := by decide +kernel
theorem dX0_lengthTo_16 : decode cX0_lengthTo 16 = .ok (.getfield 28, 3) := by decide +kernel
theorem dX0_lengthTo_19 : decode cX0_lengthTo 19 = .ok (.aload_n 0, 1) := by decide +kernel
theorem dX0_lengthTo_20 : decode cX0_lengthTo 20 = .ok (.getfield 51, 3) := by decide +kernel
theorem dX0_lengthTo_23 : decode cX0_lengthTo 23 = .ok (.iconst 1, 1) := by decide +kernel
theorem dX0_lengthTo_24 : decode cX0_lengthTo 24 = .ok (.isub, 1) := by decide +kernel
theorem dX0_lengthTo_25 : decode cX0_lengthTo 25 = .ok (.iaload, 1) := by decide +kernel
theorem dX0_lengthTo_26 : decode cX0_lengthTo 26 = .ok (.bipush 8, 2) := by decide +kernel
theorem dX0_lengthTo_28 : decode cX0_lengthTo 28 = .ok (.imul, 1) := by decide +kernel
theorem dX0_lengthTo_29 : decode cX0_lengthTo 29 = .ok (.iload_n 1, 1) := by decide +kernel
theorem dX0_lengthTo_30 : decode cX0_lengthTo 30 = .ok (.iadd, 1) := by decide +kernel
theorem dX0_lengthTo_31 : decode cX0_lengthTo 31 = .ok (.iaload, 1) := by decide +kernel
theorem dX0_lengthTo_32 : decode cX0_lengthTo 32 = .ok (.ireturn, 1) := by decide +kernel
abbrev cX0_shortest : ByteArray := prog_1_method_23_code
def yX0_shortest : MethodName := ⟨RX0, "shortest", "(II)I"⟩
theorem dX0_shortest_0 : decode cX0_shortest 0 = .ok (.iload_n 1, 1) := by decide +kernel
theorem dX0_shortest_1 : decode cX0_shortest 1 = .ok (.invokestatic 91, 3) := by decide +kernel
theorem dX0_shortest_4 : decode cX0_shortest 4 = .ok (.ifCond .ne 10, 3) := by decide +kernel
theorem dX0_shortest_7 : decode cX0_shortest 7 = .ok (.iload_n 2, 1) := by decide +kernel
theorem dX0_shortest_8 : decode cX0_shortest 8 = .ok (.invokestatic 91, 3) := by decide +kernel
theorem dX0_shortest_11 : decode cX0_shortest 11 = .ok (.ifCond .eq 6, 3) := by decide +kernel
theorem dX0_shortest_14 : decode cX0_shortest 14 = .ok (.bipush (-2), 2) := by decide +kernel
theorem dX0_shortest_16 : decode cX0_shortest 16 = .ok (.ireturn, 1) := by decide +kernel
theorem dX0_shortest_17 : decode cX0_shortest 17 = .ok (.aload_n 0, 1) := by decide +kernel
theorem dX0_shortest_18 : decode cX0_shortest 18 = .ok (.iload_n 1, 1) := by decide +kernel
theorem dX0_shortest_19 : decode cX0_shortest 19 = .ok (.invokevirtual 94, 3) := by decide +kernel
theorem dX0_shortest_22 : decode cX0_shortest 22 = .ok (.aload_n 0, 1) := by decide +kernel
theorem dX0_shortest_23 : decode cX0_shortest 23 = .ok (.iload_n 2, 1) := by decide +kernel
theorem dX0_shortest_24 : decode cX0_shortest 24 = .ok (.invokevirtual 97, 3) := by decide +kernel
theorem dX0_shortest_27 : decode cX0_shortest 27 = .ok (.istore_n 3, 1) := by decide +kernel
theorem dX0_shortest_28 : decode cX0_shortest 28 = .ok (.iload_n 3, 1) := by decide +kernel
theorem dX0_shortest_29 : decode cX0_shortest 29 = .ok (.ifCond .ge 8, 3) := by decide +kernel
theorem dX0_shortest_32 : decode cX0_shortest 32 = .ok (.bipush (-5), 2) := by decide +kernel
theorem dX0_shortest_34 : decode cX0_shortest 34 = .ok (.goto 4, 3) := by decide +kernel
theorem dX0_shortest_37 : decode cX0_shortest 37 = .ok (.iload_n 3, 1) := by decide +kernel
theorem dX0_shortest_38 : decode cX0_shortest 38 = .ok (.ireturn, 1) := by decide +kernel
abbrev cX0_reach : ByteArray := prog_1_method_25_code
def yX0_reach : MethodName := ⟨RX0, "reach", "(I)I"⟩
theorem dX0_reach_0 : decode cX0_reach 0 = .ok (.iload_n 1, 1) := by decide +kernel
theorem dX0_reach_1 : decode cX0_reach 1 = .ok (.invokestatic 91, 3) := by decide +kernel
theorem dX0_reach_4 : decode cX0_reach 4 = .ok (.ifCond .eq 6, 3) := by decide +kernel
theorem dX0_reach_7 : decode cX0_reach 7 = .ok (.bipush (-2), 2) := by decide +kernel
theorem dX0_reach_9 : decode cX0_reach 9 = .ok (.ireturn, 1) := by decide +kernel
theorem dX0_reach_10 : decode cX0_reach 10 = .ok (.aload_n 0, 1) := by decide +kernel
theorem dX0_reach_11 : decode cX0_reach 11 = .ok (.iload_n 1, 1) := by decide +kernel
theorem dX0_reach_12 : decode cX0_reach 12 = .ok (.invokevirtual 100, 3) := by decide +kernel
theorem dX0_reach_15 : decode cX0_reach 15 = .ok (.ireturn, 1) := by decide +kernel
end
section
set_option maxRecDepth 100000
abbrev cX0_reachFrom : ByteArray := prog_1_method_24_code
def yX0_reachFrom : MethodName := ⟨RX0, "reachFrom", "(I)I"⟩
theorem dX0_reachFrom_0 : decode cX0_reachFrom 0 = .ok (.aload_n 0, 1) := by decide +kernel
theorem dX0_reachFrom_1 : decode cX0_reachFrom 1 = .ok (.iload_n 1, 1) := by decide +kernel
theorem dX0_reachFrom_2 : decode cX0_reachFrom 2 = .ok (.invokevirtual 94, 3) := by decide +kernel
theorem dX0_reachFrom_5 : decode cX0_reachFrom 5 = .ok (.iconst 0, 1) := by decide +kernel
theorem dX0_reachFrom_6 : decode cX0_reachFrom 6 = .ok (.istore_n 2, 1) := by decide +kernel
theorem dX0_reachFrom_7 : decode cX0_reachFrom 7 = .ok (.iconst 0, 1) := by decide +kernel
theorem dX0_reachFrom_8 : decode cX0_reachFrom 8 = .ok (.istore_n 3, 1) := by decide +kernel
theorem dX0_reachFrom_9 : decode cX0_reachFrom 9 = .ok (.iload_n 3, 1) := by decide +kernel
theorem dX0_reachFrom_10 : decode cX0_reachFrom 10 = .ok (.bipush 8, 2) := by decide +kernel
theorem dX0_reachFrom_12 : decode cX0_reachFrom 12 = .ok (.if_icmp .ge 27, 3) := by decide +kernel
theorem dX0_reachFrom_15 : decode cX0_reachFrom 15 = .ok (.aload_n 0, 1) := by decide +kernel
theorem dX0_reachFrom_16 : decode cX0_reachFrom 16 = .ok (.iload_n 3, 1) := by decide +kernel
theorem dX0_reachFrom_17 : decode cX0_reachFrom 17 = .ok (.invokevirtual 97, 3) := by decide +kernel
theorem dX0_reachFrom_20 : decode cX0_reachFrom 20 = .ok (.istore 4, 2) := by decide +kernel
theorem dX0_reachFrom_22 : decode cX0_reachFrom 22 = .ok (.iload 4, 2) := by decide +kernel
theorem dX0_reachFrom_24 : decode cX0_reachFrom 24 = .ok (.ifCond .lt 9, 3) := by decide +kernel
theorem dX0_reachFrom_27 : decode cX0_reachFrom 27 = .ok (.iload_n 2, 1) := by decide +kernel
theorem dX0_reachFrom_28 : decode cX0_reachFrom 28 = .ok (.iconst 1, 1) := by decide +kernel
theorem dX0_reachFrom_29 : decode cX0_reachFrom 29 = .ok (.iload_n 3, 1) := by decide +kernel
theorem dX0_reachFrom_30 : decode cX0_reachFrom 30 = .ok (.ishl, 1) := by decide +kernel
theorem dX0_reachFrom_31 : decode cX0_reachFrom 31 = .ok (.ior, 1) := by decide +kernel
theorem dX0_reachFrom_32 : decode cX0_reachFrom 32 = .ok (.istore_n 2, 1) := by decide +kernel
theorem dX0_reachFrom_33 : decode cX0_reachFrom 33 = .ok (.iinc 3 1, 3) := by decide +kernel
theorem dX0_reachFrom_36 : decode cX0_reachFrom 36 = .ok (.goto (-27), 3) := by decide +kernel
theorem dX0_reachFrom_39 : decode cX0_reachFrom 39 = .ok (.iload_n 2, 1) := by decide +kernel
theorem dX0_reachFrom_40 : decode cX0_reachFrom 40 = .ok (.ireturn, 1) := by decide +kernel
abbrev cX0_pairs : ByteArray := prog_1_method_26_code
def yX0_pairs : MethodName := ⟨RX0, "pairs", "()I"⟩
theorem dX0_pairs_0 : decode cX0_pairs 0 = .ok (.iconst 0, 1) := by decide +kernel
theorem dX0_pairs_1 : decode cX0_pairs 1 = .ok (.istore_n 1, 1) := by decide +kernel
theorem dX0_pairs_2 : decode cX0_pairs 2 = .ok (.iconst 0, 1) := by decide +kernel
theorem dX0_pairs_3 : decode cX0_pairs 3 = .ok (.istore_n 2, 1) := by decide +kernel
theorem dX0_pairs_4 : decode cX0_pairs 4 = .ok (.iload_n 2, 1) := by decide +kernel
theorem dX0_pairs_5 : decode cX0_pairs 5 = .ok (.bipush 8, 2) := by decide +kernel
theorem dX0_pairs_7 : decode cX0_pairs 7 = .ok (.if_icmp .ge 40, 3) := by decide +kernel
theorem dX0_pairs_10 : decode cX0_pairs 10 = .ok (.aload_n 0, 1) := by decide +kernel
theorem dX0_pairs_11 : decode cX0_pairs 11 = .ok (.iload_n 2, 1) := by decide +kernel
theorem dX0_pairs_12 : decode cX0_pairs 12 = .ok (.invokevirtual 100, 3) := by decide +kernel
theorem dX0_pairs_15 : decode cX0_pairs 15 = .ok (.istore_n 3, 1) := by decide +kernel
theorem dX0_pairs_16 : decode cX0_pairs 16 = .ok (.iconst 0, 1) := by decide +kernel
theorem dX0_pairs_17 : decode cX0_pairs 17 = .ok (.istore 4, 2) := by decide +kernel
theorem dX0_pairs_19 : decode cX0_pairs 19 = .ok (.iload 4, 2) := by decide +kernel
theorem dX0_pairs_21 : decode cX0_pairs 21 = .ok (.bipush 8, 2) := by decide +kernel
theorem dX0_pairs_23 : decode cX0_pairs 23 = .ok (.if_icmp .ge 18, 3) := by decide +kernel
theorem dX0_pairs_26 : decode cX0_pairs 26 = .ok (.iload_n 1, 1) := by decide +kernel
theorem dX0_pairs_27 : decode cX0_pairs 27 = .ok (.iload_n 3, 1) := by decide +kernel
theorem dX0_pairs_28 : decode cX0_pairs 28 = .ok (.iload 4, 2) := by decide +kernel
theorem dX0_pairs_30 : decode cX0_pairs 30 = .ok (.ishr, 1) := by decide +kernel
theorem dX0_pairs_31 : decode cX0_pairs 31 = .ok (.iconst 1, 1) := by decide +kernel
theorem dX0_pairs_32 : decode cX0_pairs 32 = .ok (.iand, 1) := by decide +kernel
theorem dX0_pairs_33 : decode cX0_pairs 33 = .ok (.iadd, 1) := by decide +kernel
theorem dX0_pairs_34 : decode cX0_pairs 34 = .ok (.istore_n 1, 1) := by decide +kernel
theorem dX0_pairs_35 : decode cX0_pairs 35 = .ok (.iinc 4 1, 3) := by decide +kernel
theorem dX0_pairs_38 : decode cX0_pairs 38 = .ok (.goto (-19), 3) := by decide +kernel
theorem dX0_pairs_41 : decode cX0_pairs 41 = .ok (.iinc 2 1, 3) := by decide +kernel
theorem dX0_pairs_44 : decode cX0_pairs 44 = .ok (.goto (-40), 3) := by decide +kernel
theorem dX0_pairs_47 : decode cX0_pairs 47 = .ok (.iload_n 1, 1) := by decide +kernel
theorem dX0_pairs_48 : decode cX0_pairs 48 = .ok (.ireturn, 1) := by decide +kernel
abbrev cX0_loops : ByteArray := prog_1_method_27_code
def yX0_loops : MethodName := ⟨RX0, "loops", "()I"⟩
theorem dX0_loops_0 : decode cX0_loops 0 = .ok (.iconst 0, 1) := by decide +kernel
theorem dX0_loops_1 : decode cX0_loops 1 = .ok (.istore_n 1, 1) := by decide +kernel
theorem dX0_loops_2 : decode cX0_loops 2 = .ok (.iconst 0, 1) := by decide +kernel
theorem dX0_loops_3 : decode cX0_loops 3 = .ok (.istore_n 2, 1) := by decide +kernel
theorem dX0_loops_4 : decode cX0_loops 4 = .ok (.iload_n 2, 1) := by decide +kernel
theorem dX0_loops_5 : decode cX0_loops 5 = .ok (.bipush 8, 2) := by decide +kernel
theorem dX0_loops_7 : decode cX0_loops 7 = .ok (.if_icmp .ge 23, 3) := by decide +kernel
theorem dX0_loops_10 : decode cX0_loops 10 = .ok (.aload_n 0, 1) := by decide +kernel
theorem dX0_loops_11 : decode cX0_loops 11 = .ok (.iload_n 2, 1) := by decide +kernel
theorem dX0_loops_12 : decode cX0_loops 12 = .ok (.invokevirtual 100, 3) := by decide +kernel
theorem dX0_loops_15 : decode cX0_loops 15 = .ok (.istore_n 3, 1) := by decide +kernel
theorem dX0_loops_16 : decode cX0_loops 16 = .ok (.iload_n 1, 1) := by decide +kernel
theorem dX0_loops_17 : decode cX0_loops 17 = .ok (.iload_n 3, 1) := by decide +kernel
theorem dX0_loops_18 : decode cX0_loops 18 = .ok (.iconst 1, 1) := by decide +kernel
theorem dX0_loops_19 : decode cX0_loops 19 = .ok (.iload_n 2, 1) := by decide +kernel
theorem dX0_loops_20 : decode cX0_loops 20 = .ok (.ishl, 1) := by decide +kernel
theorem dX0_loops_21 : decode cX0_loops 21 = .ok (.iand, 1) := by decide +kernel
theorem dX0_loops_22 : decode cX0_loops 22 = .ok (.ior, 1) := by decide +kernel
theorem dX0_loops_23 : decode cX0_loops 23 = .ok (.istore_n 1, 1) := by decide +kernel
theorem dX0_loops_24 : decode cX0_loops 24 = .ok (.iinc 2 1, 3) := by decide +kernel
theorem dX0_loops_27 : decode cX0_loops 27 = .ok (.goto (-23), 3) := by decide +kernel
theorem dX0_loops_30 : decode cX0_loops 30 = .ok (.iload_n 1, 1) := by decide +kernel
theorem dX0_loops_31 : decode cX0_loops 31 = .ok (.ireturn, 1) := by decide +kernel
abbrev cX0_widest : ByteArray := prog_1_method_28_code
def yX0_widest : MethodName := ⟨RX0, "widest", "()I"⟩
theorem dX0_widest_0 : decode cX0_widest 0 = .ok (.bipush (-5), 2) := by decide +kernel
theorem dX0_widest_2 : decode cX0_widest 2 = .ok (.istore_n 1, 1) := by decide +kernel
theorem dX0_widest_3 : decode cX0_widest 3 = .ok (.iconst 0, 1) := by decide +kernel
theorem dX0_widest_4 : decode cX0_widest 4 = .ok (.istore_n 2, 1) := by decide +kernel
theorem dX0_widest_5 : decode cX0_widest 5 = .ok (.iload_n 2, 1) := by decide +kernel
theorem dX0_widest_6 : decode cX0_widest 6 = .ok (.bipush 8, 2) := by decide +kernel
theorem dX0_widest_8 : decode cX0_widest 8 = .ok (.if_icmp .ge 44, 3) := by decide +kernel
theorem dX0_widest_11 : decode cX0_widest 11 = .ok (.aload_n 0, 1) := by decide +kernel
theorem dX0_widest_12 : decode cX0_widest 12 = .ok (.iload_n 2, 1) := by decide +kernel
theorem dX0_widest_13 : decode cX0_widest 13 = .ok (.invokevirtual 94, 3) := by decide +kernel
theorem dX0_widest_16 : decode cX0_widest 16 = .ok (.iconst 0, 1) := by decide +kernel
theorem dX0_widest_17 : decode cX0_widest 17 = .ok (.istore_n 3, 1) := by decide +kernel
theorem dX0_widest_18 : decode cX0_widest 18 = .ok (.iload_n 3, 1) := by decide +kernel
theorem dX0_widest_19 : decode cX0_widest 19 = .ok (.bipush 8, 2) := by decide +kernel
theorem dX0_widest_21 : decode cX0_widest 21 = .ok (.if_icmp .ge 25, 3) := by decide +kernel
theorem dX0_widest_24 : decode cX0_widest 24 = .ok (.aload_n 0, 1) := by decide +kernel
theorem dX0_widest_25 : decode cX0_widest 25 = .ok (.iload_n 3, 1) := by decide +kernel
theorem dX0_widest_26 : decode cX0_widest 26 = .ok (.invokevirtual 97, 3) := by decide +kernel
theorem dX0_widest_29 : decode cX0_widest 29 = .ok (.istore 4, 2) := by decide +kernel
theorem dX0_widest_31 : decode cX0_widest 31 = .ok (.iload 4, 2) := by decide +kernel
theorem dX0_widest_33 : decode cX0_widest 33 = .ok (.iload_n 1, 1) := by decide +kernel
theorem dX0_widest_34 : decode cX0_widest 34 = .ok (.if_icmp .le 6, 3) := by decide +kernel
theorem dX0_widest_37 : decode cX0_widest 37 = .ok (.iload 4, 2) := by decide +kernel
theorem dX0_widest_39 : decode cX0_widest 39 = .ok (.istore_n 1, 1) := by decide +kernel
theorem dX0_widest_40 : decode cX0_widest 40 = .ok (.iinc 3 1, 3) := by decide +kernel
theorem dX0_widest_43 : decode cX0_widest 43 = .ok (.goto (-25), 3) := by decide +kernel
theorem dX0_widest_46 : decode cX0_widest 46 = .ok (.iinc 2 1, 3) := by decide +kernel
theorem dX0_widest_49 : decode cX0_widest 49 = .ok (.goto (-44), 3) := by decide +kernel
theorem dX0_widest_52 : decode cX0_widest 52 = .ok (.iload_n 1, 1) := by decide +kernel
theorem dX0_widest_53 : decode cX0_widest 53 = .ok (.ifCond .ge 8, 3) := by decide +kernel
theorem dX0_widest_56 : decode cX0_widest 56 = .ok (.bipush (-5), 2) := by decide +kernel
theorem dX0_widest_58 : decode cX0_widest 58 = .ok (.goto 4, 3) := by decide +kernel
theorem dX0_widest_61 : decode cX0_widest 61 = .ok (.iload_n 1, 1) := by decide +kernel
theorem dX0_widest_62 : decode cX0_widest 62 = .ok (.ireturn, 1) := by decide +kernel
abbrev cX0_steps : ByteArray := prog_1_method_29_code
def yX0_steps : MethodName := ⟨RX0, "steps", "()I"⟩
theorem dX0_steps_0 : decode cX0_steps 0 = .ok (.aload_n 0, 1) := by decide +kernel
theorem dX0_steps_1 : decode cX0_steps 1 = .ok (.getfield 40, 3) := by decide +kernel
theorem dX0_steps_4 : decode cX0_steps 4 = .ok (.ireturn, 1) := by decide +kernel
end
section
set_option maxRecDepth 100000
/-! PathAlgebraModel -/
def RX1 : String := "PathAlgebraModel"
def TX1 : u_T := fun k => match k with
  | 0 => ("PathAlgebraModel", "edges", "[Z", true)
  | 1 => ("PathAlgebraModel", "made", "I", false)
  | 2 => ("PathAlgebraModel", "kinds", "[I", true)
  | 3 => ("PathAlgebraModel", "numbers", "[I", true)
  | 4 => ("PathAlgebraModel", "high", "I", false)
  | _ => ("PathAlgebraModel", "table", "[I", true)
def tyX1 : Nat → FieldType := fun k => match k with
  | 0 => .array .boolean
  | 1 => .int
  | 2 => .array .int
  | 3 => .array .int
  | 4 => .int
  | _ => .array .int
abbrev wsX10 : List Cond := u_ws RX1 TX1 6
theorem nmX1 : ∀ a, a < 6 → ∀ b, b < 6 → a ≠ b → (TX1 a).2.1 ≠ (TX1 b).2.1 := by decide +kernel
theorem tyX1_ok : ∀ k, k < 6 → parseFieldDescriptor (TX1 k).2.2.1 = some (tyX1 k) := by decide +kernel
abbrev cX1_init : ByteArray := prog_3_method_1_code
def yX1_init : MethodName := ⟨RX1, "<init>", "()V"⟩
theorem dX1_init_0 : decode cX1_init 0 = .ok (.aload_n 0, 1) := by decide +kernel
theorem dX1_init_1 : decode cX1_init 1 = .ok (.invokespecial 1, 3) := by decide +kernel
theorem dX1_init_4 : decode cX1_init 4 = .ok (.aload_n 0, 1) := by decide +kernel
theorem dX1_init_5 : decode cX1_init 5 = .ok (.sipush 192, 3) := by decide +kernel
theorem dX1_init_8 : decode cX1_init 8 = .ok (.newarray .boolean, 2) := by decide +kernel
theorem dX1_init_10 : decode cX1_init 10 = .ok (.putfield 7, 3) := by decide +kernel
theorem dX1_init_13 : decode cX1_init 13 = .ok (.aload_n 0, 1) := by decide +kernel
theorem dX1_init_14 : decode cX1_init 14 = .ok (.bipush 14, 2) := by decide +kernel
theorem dX1_init_16 : decode cX1_init 16 = .ok (.newarray .int, 2) := by decide +kernel
theorem dX1_init_18 : decode cX1_init 18 = .ok (.putfield 13, 3) := by decide +kernel
theorem dX1_init_21 : decode cX1_init 21 = .ok (.aload_n 0, 1) := by decide +kernel
theorem dX1_init_22 : decode cX1_init 22 = .ok (.bipush 14, 2) := by decide +kernel
theorem dX1_init_24 : decode cX1_init 24 = .ok (.newarray .int, 2) := by decide +kernel
theorem dX1_init_26 : decode cX1_init 26 = .ok (.putfield 17, 3) := by decide +kernel
theorem dX1_init_29 : decode cX1_init 29 = .ok (.aload_n 0, 1) := by decide +kernel
theorem dX1_init_30 : decode cX1_init 30 = .ok (.sipush 448, 3) := by decide +kernel
theorem dX1_init_33 : decode cX1_init 33 = .ok (.newarray .int, 2) := by decide +kernel
theorem dX1_init_35 : decode cX1_init 35 = .ok (.putfield 20, 3) := by decide +kernel
theorem dX1_init_38 : decode cX1_init 38 = .ok (.return_, 1) := by decide +kernel
abbrev cX1_edge : ByteArray := prog_3_method_2_code
def yX1_edge : MethodName := ⟨RX1, "edge", "(IIZ)I"⟩
theorem dX1_edge_0 : decode cX1_edge 0 = .ok (.iload_n 1, 1) := by decide +kernel
theorem dX1_edge_1 : decode cX1_edge 1 = .ok (.ifCond .lt 8, 3) := by decide +kernel
theorem dX1_edge_4 : decode cX1_edge 4 = .ok (.iload_n 1, 1) := by decide +kernel
theorem dX1_edge_5 : decode cX1_edge 5 = .ok (.iconst 2, 1) := by decide +kernel
theorem dX1_edge_6 : decode cX1_edge 6 = .ok (.if_icmp .le 5, 3) := by decide +kernel
theorem dX1_edge_9 : decode cX1_edge 9 = .ok (.iconst (-1), 1) := by decide +kernel
theorem dX1_edge_10 : decode cX1_edge 10 = .ok (.ireturn, 1) := by decide +kernel
theorem dX1_edge_11 : decode cX1_edge 11 = .ok (.iload_n 2, 1) := by decide +kernel
theorem dX1_edge_12 : decode cX1_edge 12 = .ok (.ifCond .lt 9, 3) := by decide +kernel
theorem dX1_edge_15 : decode cX1_edge 15 = .ok (.iload_n 2, 1) := by decide +kernel
theorem dX1_edge_16 : decode cX1_edge 16 = .ok (.bipush 63, 2) := by decide +kernel
theorem dX1_edge_18 : decode cX1_edge 18 = .ok (.if_icmp .le 6, 3) := by decide +kernel
theorem dX1_edge_21 : decode cX1_edge 21 = .ok (.bipush (-2), 2) := by decide +kernel
theorem dX1_edge_23 : decode cX1_edge 23 = .ok (.ireturn, 1) := by decide +kernel
theorem dX1_edge_24 : decode cX1_edge 24 = .ok (.aload_n 0, 1) := by decide +kernel
theorem dX1_edge_25 : decode cX1_edge 25 = .ok (.getfield 7, 3) := by decide +kernel
theorem dX1_edge_28 : decode cX1_edge 28 = .ok (.iload_n 1, 1) := by decide +kernel
theorem dX1_edge_29 : decode cX1_edge 29 = .ok (.bipush 64, 2) := by decide +kernel
theorem dX1_edge_31 : decode cX1_edge 31 = .ok (.imul, 1) := by decide +kernel
theorem dX1_edge_32 : decode cX1_edge 32 = .ok (.iload_n 2, 1) := by decide +kernel
theorem dX1_edge_33 : decode cX1_edge 33 = .ok (.iadd, 1) := by decide +kernel
theorem dX1_edge_34 : decode cX1_edge 34 = .ok (.baload, 1) := by decide +kernel
theorem dX1_edge_35 : decode cX1_edge 35 = .ok (.ifCond .eq 7, 3) := by decide +kernel
theorem dX1_edge_38 : decode cX1_edge 38 = .ok (.iconst 1, 1) := by decide +kernel
theorem dX1_edge_39 : decode cX1_edge 39 = .ok (.goto 4, 3) := by decide +kernel
theorem dX1_edge_42 : decode cX1_edge 42 = .ok (.iconst 0, 1) := by decide +kernel
theorem dX1_edge_43 : decode cX1_edge 43 = .ok (.istore 4, 2) := by decide +kernel
theorem dX1_edge_45 : decode cX1_edge 45 = .ok (.aload_n 0, 1) := by decide +kernel
theorem dX1_edge_46 : decode cX1_edge 46 = .ok (.getfield 7, 3) := by decide +kernel
theorem dX1_edge_49 : decode cX1_edge 49 = .ok (.iload_n 1, 1) := by decide +kernel
theorem dX1_edge_50 : decode cX1_edge 50 = .ok (.bipush 64, 2) := by decide +kernel
theorem dX1_edge_52 : decode cX1_edge 52 = .ok (.imul, 1) := by decide +kernel
theorem dX1_edge_53 : decode cX1_edge 53 = .ok (.iload_n 2, 1) := by decide +kernel
theorem dX1_edge_54 : decode cX1_edge 54 = .ok (.iadd, 1) := by decide +kernel
theorem dX1_edge_55 : decode cX1_edge 55 = .ok (.iload_n 3, 1) := by decide +kernel
theorem dX1_edge_56 : decode cX1_edge 56 = .ok (.bastore, 1) := by decide +kernel
theorem dX1_edge_57 : decode cX1_edge 57 = .ok (.iload 4, 2) := by decide +kernel
theorem dX1_edge_59 : decode cX1_edge 59 = .ok (.ireturn, 1) := by decide +kernel
abbrev cX1_label : ByteArray := prog_3_method_4_code
def yX1_label : MethodName := ⟨RX1, "label", "(I)I"⟩
theorem dX1_label_0 : decode cX1_label 0 = .ok (.iload_n 1, 1) := by decide +kernel
theorem dX1_label_1 : decode cX1_label 1 = .ok (.ifCond .lt 8, 3) := by decide +kernel
theorem dX1_label_4 : decode cX1_label 4 = .ok (.iload_n 1, 1) := by decide +kernel
theorem dX1_label_5 : decode cX1_label 5 = .ok (.iconst 2, 1) := by decide +kernel
theorem dX1_label_6 : decode cX1_label 6 = .ok (.if_icmp .le 7, 3) := by decide +kernel
theorem dX1_label_9 : decode cX1_label 9 = .ok (.iconst (-1), 1) := by decide +kernel
theorem dX1_label_10 : decode cX1_label 10 = .ok (.goto 10, 3) := by decide +kernel
theorem dX1_label_13 : decode cX1_label 13 = .ok (.aload_n 0, 1) := by decide +kernel
theorem dX1_label_14 : decode cX1_label 14 = .ok (.iconst 0, 1) := by decide +kernel
theorem dX1_label_15 : decode cX1_label 15 = .ok (.iload_n 1, 1) := by decide +kernel
theorem dX1_label_16 : decode cX1_label 16 = .ok (.iconst 0, 1) := by decide +kernel
theorem dX1_label_17 : decode cX1_label 17 = .ok (.invokevirtual 30, 3) := by decide +kernel
theorem dX1_label_20 : decode cX1_label 20 = .ok (.ireturn, 1) := by decide +kernel
abbrev cX1_step : ByteArray := prog_3_method_3_code
def yX1_step : MethodName := ⟨RX1, "step", "(III)I"⟩
theorem dX1_step_0 : decode cX1_step 0 = .ok (.aload_n 0, 1) := by decide +kernel
theorem dX1_step_1 : decode cX1_step 1 = .ok (.getfield 23, 3) := by decide +kernel
theorem dX1_step_4 : decode cX1_step 4 = .ok (.bipush 14, 2) := by decide +kernel
theorem dX1_step_6 : decode cX1_step 6 = .ok (.if_icmp .eq 16, 3) := by decide +kernel
theorem dX1_step_9 : decode cX1_step 9 = .ok (.iload_n 3, 1) := by decide +kernel
theorem dX1_step_10 : decode cX1_step 10 = .ok (.ifCond .ne 15, 3) := by decide +kernel
theorem dX1_step_13 : decode cX1_step 13 = .ok (.aload_n 0, 1) := by decide +kernel
theorem dX1_step_14 : decode cX1_step 14 = .ok (.getfield 27, 3) := by decide +kernel
theorem dX1_step_17 : decode cX1_step 17 = .ok (.bipush 6, 2) := by decide +kernel
theorem dX1_step_19 : decode cX1_step 19 = .ok (.if_icmp .ne 6, 3) := by decide +kernel
theorem dX1_step_22 : decode cX1_step 22 = .ok (.bipush (-3), 2) := by decide +kernel
theorem dX1_step_24 : decode cX1_step 24 = .ok (.ireturn, 1) := by decide +kernel
theorem dX1_step_25 : decode cX1_step 25 = .ok (.aload_n 0, 1) := by decide +kernel
theorem dX1_step_26 : decode cX1_step 26 = .ok (.getfield 27, 3) := by decide +kernel
theorem dX1_step_29 : decode cX1_step 29 = .ok (.iload_n 3, 1) := by decide +kernel
theorem dX1_step_30 : decode cX1_step 30 = .ok (.if_icmp .ge 6, 3) := by decide +kernel
theorem dX1_step_33 : decode cX1_step 33 = .ok (.bipush (-4), 2) := by decide +kernel
theorem dX1_step_35 : decode cX1_step 35 = .ok (.ireturn, 1) := by decide +kernel
theorem dX1_step_36 : decode cX1_step 36 = .ok (.aload_n 0, 1) := by decide +kernel
theorem dX1_step_37 : decode cX1_step 37 = .ok (.getfield 13, 3) := by decide +kernel
theorem dX1_step_40 : decode cX1_step 40 = .ok (.aload_n 0, 1) := by decide +kernel
theorem dX1_step_41 : decode cX1_step 41 = .ok (.getfield 23, 3) := by decide +kernel
theorem dX1_step_44 : decode cX1_step 44 = .ok (.iload_n 1, 1) := by decide +kernel
theorem dX1_step_45 : decode cX1_step 45 = .ok (.iastore, 1) := by decide +kernel
theorem dX1_step_46 : decode cX1_step 46 = .ok (.aload_n 0, 1) := by decide +kernel
theorem dX1_step_47 : decode cX1_step 47 = .ok (.getfield 17, 3) := by decide +kernel
theorem dX1_step_50 : decode cX1_step 50 = .ok (.aload_n 0, 1) := by decide +kernel
theorem dX1_step_51 : decode cX1_step 51 = .ok (.getfield 23, 3) := by decide +kernel
theorem dX1_step_54 : decode cX1_step 54 = .ok (.iload_n 2, 1) := by decide +kernel
theorem dX1_step_55 : decode cX1_step 55 = .ok (.iastore, 1) := by decide +kernel
theorem dX1_step_56 : decode cX1_step 56 = .ok (.aload_n 0, 1) := by decide +kernel
theorem dX1_step_57 : decode cX1_step 57 = .ok (.aload_n 0, 1) := by decide +kernel
theorem dX1_step_58 : decode cX1_step 58 = .ok (.getfield 23, 3) := by decide +kernel
theorem dX1_step_61 : decode cX1_step 61 = .ok (.iconst 1, 1) := by decide +kernel
theorem dX1_step_62 : decode cX1_step 62 = .ok (.iadd, 1) := by decide +kernel
theorem dX1_step_63 : decode cX1_step 63 = .ok (.putfield 23, 3) := by decide +kernel
theorem dX1_step_66 : decode cX1_step 66 = .ok (.aload_n 0, 1) := by decide +kernel
theorem dX1_step_67 : decode cX1_step 67 = .ok (.aload_n 0, 1) := by decide +kernel
theorem dX1_step_68 : decode cX1_step 68 = .ok (.getfield 27, 3) := by decide +kernel
theorem dX1_step_71 : decode cX1_step 71 = .ok (.iload_n 3, 1) := by decide +kernel
theorem dX1_step_72 : decode cX1_step 72 = .ok (.isub, 1) := by decide +kernel
theorem dX1_step_73 : decode cX1_step 73 = .ok (.iconst 1, 1) := by decide +kernel
theorem dX1_step_74 : decode cX1_step 74 = .ok (.iadd, 1) := by decide +kernel
theorem dX1_step_75 : decode cX1_step 75 = .ok (.putfield 27, 3) := by decide +kernel
theorem dX1_step_78 : decode cX1_step 78 = .ok (.aload_n 0, 1) := by decide +kernel
theorem dX1_step_79 : decode cX1_step 79 = .ok (.getfield 27, 3) := by decide +kernel
theorem dX1_step_82 : decode cX1_step 82 = .ok (.ireturn, 1) := by decide +kernel
abbrev cX1_back : ByteArray := prog_3_method_5_code
def yX1_back : MethodName := ⟨RX1, "back", "(I)I"⟩
theorem dX1_back_0 : decode cX1_back 0 = .ok (.iload_n 1, 1) := by decide +kernel
theorem dX1_back_1 : decode cX1_back 1 = .ok (.ifCond .lt 8, 3) := by decide +kernel
theorem dX1_back_4 : decode cX1_back 4 = .ok (.iload_n 1, 1) := by decide +kernel
theorem dX1_back_5 : decode cX1_back 5 = .ok (.iconst 2, 1) := by decide +kernel
theorem dX1_back_6 : decode cX1_back 6 = .ok (.if_icmp .le 7, 3) := by decide +kernel
theorem dX1_back_9 : decode cX1_back 9 = .ok (.iconst (-1), 1) := by decide +kernel
theorem dX1_back_10 : decode cX1_back 10 = .ok (.goto 10, 3) := by decide +kernel
theorem dX1_back_13 : decode cX1_back 13 = .ok (.aload_n 0, 1) := by decide +kernel
theorem dX1_back_14 : decode cX1_back 14 = .ok (.iconst 1, 1) := by decide +kernel
theorem dX1_back_15 : decode cX1_back 15 = .ok (.iload_n 1, 1) := by decide +kernel
theorem dX1_back_16 : decode cX1_back 16 = .ok (.iconst 0, 1) := by decide +kernel
theorem dX1_back_17 : decode cX1_back 17 = .ok (.invokevirtual 30, 3) := by decide +kernel
theorem dX1_back_20 : decode cX1_back 20 = .ok (.ireturn, 1) := by decide +kernel
abbrev cX1_at : ByteArray := prog_3_method_6_code
def yX1_at : MethodName := ⟨RX1, "at", "(I)I"⟩
theorem dX1_at_0 : decode cX1_at 0 = .ok (.iload_n 1, 1) := by decide +kernel
theorem dX1_at_1 : decode cX1_at 1 = .ok (.iconst (-1), 1) := by decide +kernel
theorem dX1_at_2 : decode cX1_at 2 = .ok (.if_icmp .lt 9, 3) := by decide +kernel
theorem dX1_at_5 : decode cX1_at 5 = .ok (.iload_n 1, 1) := by decide +kernel
theorem dX1_at_6 : decode cX1_at 6 = .ok (.bipush 7, 2) := by decide +kernel
theorem dX1_at_8 : decode cX1_at 8 = .ok (.if_icmp .le 8, 3) := by decide +kernel
theorem dX1_at_11 : decode cX1_at 11 = .ok (.bipush (-2), 2) := by decide +kernel
theorem dX1_at_13 : decode cX1_at 13 = .ok (.goto 10, 3) := by decide +kernel
theorem dX1_at_16 : decode cX1_at 16 = .ok (.aload_n 0, 1) := by decide +kernel
theorem dX1_at_17 : decode cX1_at 17 = .ok (.iconst 2, 1) := by decide +kernel
theorem dX1_at_18 : decode cX1_at 18 = .ok (.iload_n 1, 1) := by decide +kernel
theorem dX1_at_19 : decode cX1_at 19 = .ok (.iconst 0, 1) := by decide +kernel
theorem dX1_at_20 : decode cX1_at 20 = .ok (.invokevirtual 30, 3) := by decide +kernel
theorem dX1_at_23 : decode cX1_at 23 = .ok (.ireturn, 1) := by decide +kernel
abbrev cX1_then : ByteArray := prog_3_method_7_code
def yX1_then : MethodName := ⟨RX1, "then", "()I"⟩
theorem dX1_then_0 : decode cX1_then 0 = .ok (.aload_n 0, 1) := by decide +kernel
theorem dX1_then_1 : decode cX1_then 1 = .ok (.iconst 3, 1) := by decide +kernel
theorem dX1_then_2 : decode cX1_then 2 = .ok (.iconst 0, 1) := by decide +kernel
theorem dX1_then_3 : decode cX1_then 3 = .ok (.iconst 2, 1) := by decide +kernel
theorem dX1_then_4 : decode cX1_then 4 = .ok (.invokevirtual 30, 3) := by decide +kernel
theorem dX1_then_7 : decode cX1_then 7 = .ok (.ireturn, 1) := by decide +kernel
abbrev cX1_or : ByteArray := prog_3_method_8_code
def yX1_or : MethodName := ⟨RX1, "or", "()I"⟩
theorem dX1_or_0 : decode cX1_or 0 = .ok (.aload_n 0, 1) := by decide +kernel
theorem dX1_or_1 : decode cX1_or 1 = .ok (.iconst 4, 1) := by decide +kernel
theorem dX1_or_2 : decode cX1_or 2 = .ok (.iconst 0, 1) := by decide +kernel
theorem dX1_or_3 : decode cX1_or 3 = .ok (.iconst 2, 1) := by decide +kernel
theorem dX1_or_4 : decode cX1_or 4 = .ok (.invokevirtual 30, 3) := by decide +kernel
theorem dX1_or_7 : decode cX1_or 7 = .ok (.ireturn, 1) := by decide +kernel
abbrev cX1_star : ByteArray := prog_3_method_9_code
def yX1_star : MethodName := ⟨RX1, "star", "()I"⟩
theorem dX1_star_0 : decode cX1_star 0 = .ok (.aload_n 0, 1) := by decide +kernel
theorem dX1_star_1 : decode cX1_star 1 = .ok (.iconst 5, 1) := by decide +kernel
theorem dX1_star_2 : decode cX1_star 2 = .ok (.iconst 0, 1) := by decide +kernel
theorem dX1_star_3 : decode cX1_star 3 = .ok (.iconst 1, 1) := by decide +kernel
theorem dX1_star_4 : decode cX1_star 4 = .ok (.invokevirtual 30, 3) := by decide +kernel
theorem dX1_star_7 : decode cX1_star 7 = .ok (.ireturn, 1) := by decide +kernel
abbrev cX1_clear : ByteArray := prog_3_method_10_code
def yX1_clear : MethodName := ⟨RX1, "clear", "()V"⟩
theorem dX1_clear_0 : decode cX1_clear 0 = .ok (.aload_n 0, 1) := by decide +kernel
theorem dX1_clear_1 : decode cX1_clear 1 = .ok (.iconst 0, 1) := by decide +kernel
theorem dX1_clear_2 : decode cX1_clear 2 = .ok (.putfield 23, 3) := by decide +kernel
theorem dX1_clear_5 : decode cX1_clear 5 = .ok (.aload_n 0, 1) := by decide +kernel
theorem dX1_clear_6 : decode cX1_clear 6 = .ok (.iconst 0, 1) := by decide +kernel
theorem dX1_clear_7 : decode cX1_clear 7 = .ok (.putfield 27, 3) := by decide +kernel
theorem dX1_clear_10 : decode cX1_clear 10 = .ok (.return_, 1) := by decide +kernel
abbrev cX1_leads : ByteArray := prog_3_method_18_code
def yX1_leads : MethodName := ⟨RX1, "leads", "(II)Z"⟩
theorem dX1_leads_0 : decode cX1_leads 0 = .ok (.aload_n 0, 1) := by decide +kernel
theorem dX1_leads_1 : decode cX1_leads 1 = .ok (.iload_n 1, 1) := by decide +kernel
theorem dX1_leads_2 : decode cX1_leads 2 = .ok (.invokevirtual 50, 3) := by decide +kernel
theorem dX1_leads_5 : decode cX1_leads 5 = .ok (.ifCond .ne 11, 3) := by decide +kernel
theorem dX1_leads_8 : decode cX1_leads 8 = .ok (.aload_n 0, 1) := by decide +kernel
theorem dX1_leads_9 : decode cX1_leads 9 = .ok (.iload_n 2, 1) := by decide +kernel
theorem dX1_leads_10 : decode cX1_leads 10 = .ok (.invokevirtual 50, 3) := by decide +kernel
theorem dX1_leads_13 : decode cX1_leads 13 = .ok (.ifCond .eq 5, 3) := by decide +kernel
theorem dX1_leads_16 : decode cX1_leads 16 = .ok (.iconst 0, 1) := by decide +kernel
theorem dX1_leads_17 : decode cX1_leads 17 = .ok (.ireturn, 1) := by decide +kernel
theorem dX1_leads_18 : decode cX1_leads 18 = .ok (.aload_n 0, 1) := by decide +kernel
theorem dX1_leads_19 : decode cX1_leads 19 = .ok (.invokevirtual 54, 3) := by decide +kernel
theorem dX1_leads_22 : decode cX1_leads 22 = .ok (.istore_n 3, 1) := by decide +kernel
theorem dX1_leads_23 : decode cX1_leads 23 = .ok (.aload_n 0, 1) := by decide +kernel
theorem dX1_leads_24 : decode cX1_leads 24 = .ok (.iload_n 3, 1) := by decide +kernel
theorem dX1_leads_25 : decode cX1_leads 25 = .ok (.iload_n 1, 1) := by decide +kernel
theorem dX1_leads_26 : decode cX1_leads 26 = .ok (.iload_n 2, 1) := by decide +kernel
theorem dX1_leads_27 : decode cX1_leads 27 = .ok (.invokevirtual 58, 3) := by decide +kernel
theorem dX1_leads_30 : decode cX1_leads 30 = .ok (.ldc 34, 2) := by decide +kernel
theorem dX1_leads_32 : decode cX1_leads 32 = .ok (.if_icmp .ge 7, 3) := by decide +kernel
theorem dX1_leads_35 : decode cX1_leads 35 = .ok (.iconst 1, 1) := by decide +kernel
theorem dX1_leads_36 : decode cX1_leads 36 = .ok (.goto 4, 3) := by decide +kernel
theorem dX1_leads_39 : decode cX1_leads 39 = .ok (.iconst 0, 1) := by decide +kernel
theorem dX1_leads_40 : decode cX1_leads 40 = .ok (.ireturn, 1) := by decide +kernel
abbrev cX1_bad : ByteArray := prog_3_method_16_code
def yX1_bad : MethodName := ⟨RX1, "bad", "(I)Z"⟩
theorem dX1_bad_0 : decode cX1_bad 0 = .ok (.iload_n 1, 1) := by decide +kernel
theorem dX1_bad_1 : decode cX1_bad 1 = .ok (.ifCond .lt 9, 3) := by decide +kernel
theorem dX1_bad_4 : decode cX1_bad 4 = .ok (.iload_n 1, 1) := by decide +kernel
theorem dX1_bad_5 : decode cX1_bad 5 = .ok (.bipush 7, 2) := by decide +kernel
theorem dX1_bad_7 : decode cX1_bad 7 = .ok (.if_icmp .le 7, 3) := by decide +kernel
theorem dX1_bad_10 : decode cX1_bad 10 = .ok (.iconst 1, 1) := by decide +kernel
theorem dX1_bad_11 : decode cX1_bad 11 = .ok (.goto 4, 3) := by decide +kernel
theorem dX1_bad_14 : decode cX1_bad 14 = .ok (.iconst 0, 1) := by decide +kernel
theorem dX1_bad_15 : decode cX1_bad 15 = .ok (.ireturn, 1) := by decide +kernel
abbrev cX1_workOut : ByteArray := prog_3_method_15_code
def yX1_workOut : MethodName := ⟨RX1, "workOut", "()I"⟩
theorem dX1_workOut_0 : decode cX1_workOut 0 = .ok (.iconst (-1), 1) := by decide +kernel
theorem dX1_workOut_1 : decode cX1_workOut 1 = .ok (.istore_n 1, 1) := by decide +kernel
theorem dX1_workOut_2 : decode cX1_workOut 2 = .ok (.iconst 0, 1) := by decide +kernel
theorem dX1_workOut_3 : decode cX1_workOut 3 = .ok (.istore_n 2, 1) := by decide +kernel
theorem dX1_workOut_4 : decode cX1_workOut 4 = .ok (.iload_n 2, 1) := by decide +kernel
theorem dX1_workOut_5 : decode cX1_workOut 5 = .ok (.aload_n 0, 1) := by decide +kernel
theorem dX1_workOut_6 : decode cX1_workOut 6 = .ok (.getfield 23, 3) := by decide +kernel
theorem dX1_workOut_9 : decode cX1_workOut 9 = .ok (.if_icmp .ge 170, 3) := by decide +kernel
theorem dX1_workOut_12 : decode cX1_workOut 12 = .ok (.aload_n 0, 1) := by decide +kernel
theorem dX1_workOut_13 : decode cX1_workOut 13 = .ok (.getfield 13, 3) := by decide +kernel
theorem dX1_workOut_16 : decode cX1_workOut 16 = .ok (.iload_n 2, 1) := by decide +kernel
theorem dX1_workOut_17 : decode cX1_workOut 17 = .ok (.iaload, 1) := by decide +kernel
theorem dX1_workOut_18 : decode cX1_workOut 18 = .ok (.iconst 3, 1) := by decide +kernel
theorem dX1_workOut_19 : decode cX1_workOut 19 = .ok (.if_icmp .ge 58, 3) := by decide +kernel
theorem dX1_workOut_22 : decode cX1_workOut 22 = .ok (.iinc 1 1, 3) := by decide +kernel
theorem dX1_workOut_25 : decode cX1_workOut 25 = .ok (.iconst 0, 1) := by decide +kernel
theorem dX1_workOut_26 : decode cX1_workOut 26 = .ok (.istore_n 3, 1) := by decide +kernel
theorem dX1_workOut_27 : decode cX1_workOut 27 = .ok (.iload_n 3, 1) := by decide +kernel
theorem dX1_workOut_28 : decode cX1_workOut 28 = .ok (.bipush 64, 2) := by decide +kernel
theorem dX1_workOut_30 : decode cX1_workOut 30 = .ok (.if_icmp .ge 44, 3) := by decide +kernel
theorem dX1_workOut_33 : decode cX1_workOut 33 = .ok (.aload_n 0, 1) := by decide +kernel
theorem dX1_workOut_34 : decode cX1_workOut 34 = .ok (.getfield 20, 3) := by decide +kernel
theorem dX1_workOut_37 : decode cX1_workOut 37 = .ok (.iload_n 1, 1) := by decide +kernel
theorem dX1_workOut_38 : decode cX1_workOut 38 = .ok (.bipush 64, 2) := by decide +kernel
theorem dX1_workOut_40 : decode cX1_workOut 40 = .ok (.imul, 1) := by decide +kernel
theorem dX1_workOut_41 : decode cX1_workOut 41 = .ok (.iload_n 3, 1) := by decide +kernel
theorem dX1_workOut_42 : decode cX1_workOut 42 = .ok (.iadd, 1) := by decide +kernel
theorem dX1_workOut_43 : decode cX1_workOut 43 = .ok (.aload_n 0, 1) := by decide +kernel
theorem dX1_workOut_44 : decode cX1_workOut 44 = .ok (.aload_n 0, 1) := by decide +kernel
theorem dX1_workOut_45 : decode cX1_workOut 45 = .ok (.getfield 13, 3) := by decide +kernel
theorem dX1_workOut_48 : decode cX1_workOut 48 = .ok (.iload_n 2, 1) := by decide +kernel
theorem dX1_workOut_49 : decode cX1_workOut 49 = .ok (.iaload, 1) := by decide +kernel
theorem dX1_workOut_50 : decode cX1_workOut 50 = .ok (.aload_n 0, 1) := by decide +kernel
theorem dX1_workOut_51 : decode cX1_workOut 51 = .ok (.getfield 17, 3) := by decide +kernel
theorem dX1_workOut_54 : decode cX1_workOut 54 = .ok (.iload_n 2, 1) := by decide +kernel
theorem dX1_workOut_55 : decode cX1_workOut 55 = .ok (.iaload, 1) := by decide +kernel
theorem dX1_workOut_56 : decode cX1_workOut 56 = .ok (.iload_n 3, 1) := by decide +kernel
theorem dX1_workOut_57 : decode cX1_workOut 57 = .ok (.bipush 8, 2) := by decide +kernel
theorem dX1_workOut_59 : decode cX1_workOut 59 = .ok (.idiv, 1) := by decide +kernel
theorem dX1_workOut_60 : decode cX1_workOut 60 = .ok (.iload_n 3, 1) := by decide +kernel
theorem dX1_workOut_61 : decode cX1_workOut 61 = .ok (.bipush 8, 2) := by decide +kernel
theorem dX1_workOut_63 : decode cX1_workOut 63 = .ok (.irem, 1) := by decide +kernel
theorem dX1_workOut_64 : decode cX1_workOut 64 = .ok (.invokevirtual 39, 3) := by decide +kernel
theorem dX1_workOut_67 : decode cX1_workOut 67 = .ok (.iastore, 1) := by decide +kernel
theorem dX1_workOut_68 : decode cX1_workOut 68 = .ok (.iinc 3 1, 3) := by decide +kernel
theorem dX1_workOut_71 : decode cX1_workOut 71 = .ok (.goto (-44), 3) := by decide +kernel
theorem dX1_workOut_74 : decode cX1_workOut 74 = .ok (.goto 99, 3) := by decide +kernel
theorem dX1_workOut_77 : decode cX1_workOut 77 = .ok (.aload_n 0, 1) := by decide +kernel
theorem dX1_workOut_78 : decode cX1_workOut 78 = .ok (.getfield 13, 3) := by decide +kernel
theorem dX1_workOut_81 : decode cX1_workOut 81 = .ok (.iload_n 2, 1) := by decide +kernel
theorem dX1_workOut_82 : decode cX1_workOut 82 = .ok (.iaload, 1) := by decide +kernel
theorem dX1_workOut_83 : decode cX1_workOut 83 = .ok (.iconst 3, 1) := by decide +kernel
theorem dX1_workOut_84 : decode cX1_workOut 84 = .ok (.if_icmp .ne 14, 3) := by decide +kernel
theorem dX1_workOut_87 : decode cX1_workOut 87 = .ok (.iinc 1 (-1), 3) := by decide +kernel
theorem dX1_workOut_90 : decode cX1_workOut 90 = .ok (.aload_n 0, 1) := by decide +kernel
theorem dX1_workOut_91 : decode cX1_workOut 91 = .ok (.iload_n 1, 1) := by decide +kernel
theorem dX1_workOut_92 : decode cX1_workOut 92 = .ok (.invokevirtual 43, 3) := by decide +kernel
theorem dX1_workOut_95 : decode cX1_workOut 95 = .ok (.goto 78, 3) := by decide +kernel
theorem dX1_workOut_98 : decode cX1_workOut 98 = .ok (.aload_n 0, 1) := by decide +kernel
theorem dX1_workOut_99 : decode cX1_workOut 99 = .ok (.getfield 13, 3) := by decide +kernel
theorem dX1_workOut_102 : decode cX1_workOut 102 = .ok (.iload_n 2, 1) := by decide +kernel
theorem dX1_workOut_103 : decode cX1_workOut 103 = .ok (.iaload, 1) := by decide +kernel
theorem dX1_workOut_104 : decode cX1_workOut 104 = .ok (.iconst 4, 1) := by decide +kernel
theorem dX1_workOut_105 : decode cX1_workOut 105 = .ok (.if_icmp .ne 63, 3) := by decide +kernel
theorem dX1_workOut_108 : decode cX1_workOut 108 = .ok (.iinc 1 (-1), 3) := by decide +kernel
theorem dX1_workOut_111 : decode cX1_workOut 111 = .ok (.iconst 0, 1) := by decide +kernel
theorem dX1_workOut_112 : decode cX1_workOut 112 = .ok (.istore_n 3, 1) := by decide +kernel
theorem dX1_workOut_113 : decode cX1_workOut 113 = .ok (.iload_n 3, 1) := by decide +kernel
theorem dX1_workOut_114 : decode cX1_workOut 114 = .ok (.bipush 64, 2) := by decide +kernel
theorem dX1_workOut_116 : decode cX1_workOut 116 = .ok (.if_icmp .ge 49, 3) := by decide +kernel
theorem dX1_workOut_119 : decode cX1_workOut 119 = .ok (.aload_n 0, 1) := by decide +kernel
theorem dX1_workOut_120 : decode cX1_workOut 120 = .ok (.getfield 20, 3) := by decide +kernel
theorem dX1_workOut_123 : decode cX1_workOut 123 = .ok (.iload_n 1, 1) := by decide +kernel
theorem dX1_workOut_124 : decode cX1_workOut 124 = .ok (.bipush 64, 2) := by decide +kernel
theorem dX1_workOut_126 : decode cX1_workOut 126 = .ok (.imul, 1) := by decide +kernel
theorem dX1_workOut_127 : decode cX1_workOut 127 = .ok (.iload_n 3, 1) := by decide +kernel
theorem dX1_workOut_128 : decode cX1_workOut 128 = .ok (.iadd, 1) := by decide +kernel
theorem dX1_workOut_129 : decode cX1_workOut 129 = .ok (.aload_n 0, 1) := by decide +kernel
theorem dX1_workOut_130 : decode cX1_workOut 130 = .ok (.aload_n 0, 1) := by decide +kernel
theorem dX1_workOut_131 : decode cX1_workOut 131 = .ok (.getfield 20, 3) := by decide +kernel
theorem dX1_workOut_134 : decode cX1_workOut 134 = .ok (.iload_n 1, 1) := by decide +kernel
theorem dX1_workOut_135 : decode cX1_workOut 135 = .ok (.bipush 64, 2) := by decide +kernel
theorem dX1_workOut_137 : decode cX1_workOut 137 = .ok (.imul, 1) := by decide +kernel
theorem dX1_workOut_138 : decode cX1_workOut 138 = .ok (.iload_n 3, 1) := by decide +kernel
theorem dX1_workOut_139 : decode cX1_workOut 139 = .ok (.iadd, 1) := by decide +kernel
theorem dX1_workOut_140 : decode cX1_workOut 140 = .ok (.iaload, 1) := by decide +kernel
theorem dX1_workOut_141 : decode cX1_workOut 141 = .ok (.aload_n 0, 1) := by decide +kernel
theorem dX1_workOut_142 : decode cX1_workOut 142 = .ok (.getfield 20, 3) := by decide +kernel
theorem dX1_workOut_145 : decode cX1_workOut 145 = .ok (.iload_n 1, 1) := by decide +kernel
theorem dX1_workOut_146 : decode cX1_workOut 146 = .ok (.bipush 64, 2) := by decide +kernel
theorem dX1_workOut_148 : decode cX1_workOut 148 = .ok (.imul, 1) := by decide +kernel
theorem dX1_workOut_149 : decode cX1_workOut 149 = .ok (.bipush 64, 2) := by decide +kernel
theorem dX1_workOut_151 : decode cX1_workOut 151 = .ok (.iadd, 1) := by decide +kernel
theorem dX1_workOut_152 : decode cX1_workOut 152 = .ok (.iload_n 3, 1) := by decide +kernel
theorem dX1_workOut_153 : decode cX1_workOut 153 = .ok (.iadd, 1) := by decide +kernel
theorem dX1_workOut_154 : decode cX1_workOut 154 = .ok (.iaload, 1) := by decide +kernel
theorem dX1_workOut_155 : decode cX1_workOut 155 = .ok (.invokevirtual 35, 3) := by decide +kernel
theorem dX1_workOut_158 : decode cX1_workOut 158 = .ok (.iastore, 1) := by decide +kernel
theorem dX1_workOut_159 : decode cX1_workOut 159 = .ok (.iinc 3 1, 3) := by decide +kernel
theorem dX1_workOut_162 : decode cX1_workOut 162 = .ok (.goto (-49), 3) := by decide +kernel
theorem dX1_workOut_165 : decode cX1_workOut 165 = .ok (.goto 8, 3) := by decide +kernel
theorem dX1_workOut_168 : decode cX1_workOut 168 = .ok (.aload_n 0, 1) := by decide +kernel
theorem dX1_workOut_169 : decode cX1_workOut 169 = .ok (.iload_n 1, 1) := by decide +kernel
theorem dX1_workOut_170 : decode cX1_workOut 170 = .ok (.invokevirtual 47, 3) := by decide +kernel
theorem dX1_workOut_173 : decode cX1_workOut 173 = .ok (.iinc 2 1, 3) := by decide +kernel
theorem dX1_workOut_176 : decode cX1_workOut 176 = .ok (.goto (-172), 3) := by decide +kernel
theorem dX1_workOut_179 : decode cX1_workOut 179 = .ok (.iload_n 1, 1) := by decide +kernel
theorem dX1_workOut_180 : decode cX1_workOut 180 = .ok (.ireturn, 1) := by decide +kernel
end
section
set_option maxRecDepth 100000
abbrev cX1_single : ByteArray := prog_3_method_12_code
def yX1_single : MethodName := ⟨RX1, "single", "(IIII)I"⟩
theorem dX1_single_0 : decode cX1_single 0 = .ok (.iload_n 3, 1) := by decide +kernel
theorem dX1_single_1 : decode cX1_single 1 = .ok (.iload 4, 2) := by decide +kernel
theorem dX1_single_3 : decode cX1_single 3 = .ok (.if_icmp .ne 17, 3) := by decide +kernel
theorem dX1_single_6 : decode cX1_single 6 = .ok (.iload_n 2, 1) := by decide +kernel
theorem dX1_single_7 : decode cX1_single 7 = .ok (.iconst (-1), 1) := by decide +kernel
theorem dX1_single_8 : decode cX1_single 8 = .ok (.if_icmp .eq 8, 3) := by decide +kernel
theorem dX1_single_11 : decode cX1_single 11 = .ok (.iload_n 2, 1) := by decide +kernel
theorem dX1_single_12 : decode cX1_single 12 = .ok (.iload_n 3, 1) := by decide +kernel
theorem dX1_single_13 : decode cX1_single 13 = .ok (.if_icmp .ne 7, 3) := by decide +kernel
theorem dX1_single_16 : decode cX1_single 16 = .ok (.iconst 1, 1) := by decide +kernel
theorem dX1_single_17 : decode cX1_single 17 = .ok (.goto 4, 3) := by decide +kernel
theorem dX1_single_20 : decode cX1_single 20 = .ok (.iconst 0, 1) := by decide +kernel
theorem dX1_single_21 : decode cX1_single 21 = .ok (.istore 5, 2) := by decide +kernel
theorem dX1_single_23 : decode cX1_single 23 = .ok (.iload_n 1, 1) := by decide +kernel
theorem dX1_single_24 : decode cX1_single 24 = .ok (.ifCond .ne 25, 3) := by decide +kernel
theorem dX1_single_27 : decode cX1_single 27 = .ok (.aload_n 0, 1) := by decide +kernel
theorem dX1_single_28 : decode cX1_single 28 = .ok (.getfield 7, 3) := by decide +kernel
theorem dX1_single_31 : decode cX1_single 31 = .ok (.iload_n 2, 1) := by decide +kernel
theorem dX1_single_32 : decode cX1_single 32 = .ok (.bipush 64, 2) := by decide +kernel
theorem dX1_single_34 : decode cX1_single 34 = .ok (.imul, 1) := by decide +kernel
theorem dX1_single_35 : decode cX1_single 35 = .ok (.iload_n 3, 1) := by decide +kernel
theorem dX1_single_36 : decode cX1_single 36 = .ok (.iadd, 1) := by decide +kernel
theorem dX1_single_37 : decode cX1_single 37 = .ok (.bipush 8, 2) := by decide +kernel
theorem dX1_single_39 : decode cX1_single 39 = .ok (.iload 4, 2) := by decide +kernel
theorem dX1_single_41 : decode cX1_single 41 = .ok (.imul, 1) := by decide +kernel
theorem dX1_single_42 : decode cX1_single 42 = .ok (.iadd, 1) := by decide +kernel
theorem dX1_single_43 : decode cX1_single 43 = .ok (.baload, 1) := by decide +kernel
theorem dX1_single_44 : decode cX1_single 44 = .ok (.istore 5, 2) := by decide +kernel
theorem dX1_single_46 : decode cX1_single 46 = .ok (.goto 27, 3) := by decide +kernel
theorem dX1_single_49 : decode cX1_single 49 = .ok (.iload_n 1, 1) := by decide +kernel
theorem dX1_single_50 : decode cX1_single 50 = .ok (.iconst 1, 1) := by decide +kernel
theorem dX1_single_51 : decode cX1_single 51 = .ok (.if_icmp .ne 22, 3) := by decide +kernel
theorem dX1_single_54 : decode cX1_single 54 = .ok (.aload_n 0, 1) := by decide +kernel
theorem dX1_single_55 : decode cX1_single 55 = .ok (.getfield 7, 3) := by decide +kernel
theorem dX1_single_58 : decode cX1_single 58 = .ok (.iload_n 2, 1) := by decide +kernel
theorem dX1_single_59 : decode cX1_single 59 = .ok (.bipush 64, 2) := by decide +kernel
theorem dX1_single_61 : decode cX1_single 61 = .ok (.imul, 1) := by decide +kernel
theorem dX1_single_62 : decode cX1_single 62 = .ok (.iload 4, 2) := by decide +kernel
theorem dX1_single_64 : decode cX1_single 64 = .ok (.iadd, 1) := by decide +kernel
theorem dX1_single_65 : decode cX1_single 65 = .ok (.bipush 8, 2) := by decide +kernel
theorem dX1_single_67 : decode cX1_single 67 = .ok (.iload_n 3, 1) := by decide +kernel
theorem dX1_single_68 : decode cX1_single 68 = .ok (.imul, 1) := by decide +kernel
theorem dX1_single_69 : decode cX1_single 69 = .ok (.iadd, 1) := by decide +kernel
theorem dX1_single_70 : decode cX1_single 70 = .ok (.baload, 1) := by decide +kernel
theorem dX1_single_71 : decode cX1_single 71 = .ok (.istore 5, 2) := by decide +kernel
theorem dX1_single_73 : decode cX1_single 73 = .ok (.iload 5, 2) := by decide +kernel
theorem dX1_single_75 : decode cX1_single 75 = .ok (.ifCond .ne 8, 3) := by decide +kernel
theorem dX1_single_78 : decode cX1_single 78 = .ok (.ldc 34, 2) := by decide +kernel
theorem dX1_single_80 : decode cX1_single 80 = .ok (.goto 13, 3) := by decide +kernel
theorem dX1_single_83 : decode cX1_single 83 = .ok (.iload_n 1, 1) := by decide +kernel
theorem dX1_single_84 : decode cX1_single 84 = .ok (.iconst 2, 1) := by decide +kernel
theorem dX1_single_85 : decode cX1_single 85 = .ok (.if_icmp .ne 7, 3) := by decide +kernel
theorem dX1_single_88 : decode cX1_single 88 = .ok (.iconst 0, 1) := by decide +kernel
theorem dX1_single_89 : decode cX1_single 89 = .ok (.goto 4, 3) := by decide +kernel
theorem dX1_single_92 : decode cX1_single 92 = .ok (.iconst 1, 1) := by decide +kernel
theorem dX1_single_93 : decode cX1_single 93 = .ok (.ireturn, 1) := by decide +kernel
abbrev cX1_join : ByteArray := prog_3_method_13_code
def yX1_join : MethodName := ⟨RX1, "join", "(I)V"⟩
theorem dX1_join_0 : decode cX1_join 0 = .ok (.iconst 0, 1) := by decide +kernel
theorem dX1_join_1 : decode cX1_join 1 = .ok (.istore_n 2, 1) := by decide +kernel
theorem dX1_join_2 : decode cX1_join 2 = .ok (.iload_n 2, 1) := by decide +kernel
theorem dX1_join_3 : decode cX1_join 3 = .ok (.bipush 64, 2) := by decide +kernel
theorem dX1_join_5 : decode cX1_join 5 = .ok (.if_icmp .ge 102, 3) := by decide +kernel
theorem dX1_join_8 : decode cX1_join 8 = .ok (.ldc 34, 2) := by decide +kernel
theorem dX1_join_10 : decode cX1_join 10 = .ok (.istore_n 3, 1) := by decide +kernel
theorem dX1_join_11 : decode cX1_join 11 = .ok (.iconst 0, 1) := by decide +kernel
theorem dX1_join_12 : decode cX1_join 12 = .ok (.istore 4, 2) := by decide +kernel
theorem dX1_join_14 : decode cX1_join 14 = .ok (.iload 4, 2) := by decide +kernel
theorem dX1_join_16 : decode cX1_join 16 = .ok (.bipush 8, 2) := by decide +kernel
theorem dX1_join_18 : decode cX1_join 18 = .ok (.if_icmp .ge 67, 3) := by decide +kernel
theorem dX1_join_21 : decode cX1_join 21 = .ok (.aload_n 0, 1) := by decide +kernel
theorem dX1_join_22 : decode cX1_join 22 = .ok (.getfield 20, 3) := by decide +kernel
theorem dX1_join_25 : decode cX1_join 25 = .ok (.iload_n 1, 1) := by decide +kernel
theorem dX1_join_26 : decode cX1_join 26 = .ok (.bipush 64, 2) := by decide +kernel
theorem dX1_join_28 : decode cX1_join 28 = .ok (.imul, 1) := by decide +kernel
theorem dX1_join_29 : decode cX1_join 29 = .ok (.iload_n 2, 1) := by decide +kernel
theorem dX1_join_30 : decode cX1_join 30 = .ok (.bipush 8, 2) := by decide +kernel
theorem dX1_join_32 : decode cX1_join 32 = .ok (.idiv, 1) := by decide +kernel
theorem dX1_join_33 : decode cX1_join 33 = .ok (.bipush 8, 2) := by decide +kernel
theorem dX1_join_35 : decode cX1_join 35 = .ok (.imul, 1) := by decide +kernel
theorem dX1_join_36 : decode cX1_join 36 = .ok (.iadd, 1) := by decide +kernel
theorem dX1_join_37 : decode cX1_join 37 = .ok (.iload 4, 2) := by decide +kernel
theorem dX1_join_39 : decode cX1_join 39 = .ok (.iadd, 1) := by decide +kernel
theorem dX1_join_40 : decode cX1_join 40 = .ok (.iaload, 1) := by decide +kernel
theorem dX1_join_41 : decode cX1_join 41 = .ok (.istore 5, 2) := by decide +kernel
theorem dX1_join_43 : decode cX1_join 43 = .ok (.aload_n 0, 1) := by decide +kernel
theorem dX1_join_44 : decode cX1_join 44 = .ok (.getfield 20, 3) := by decide +kernel
theorem dX1_join_47 : decode cX1_join 47 = .ok (.iload_n 1, 1) := by decide +kernel
theorem dX1_join_48 : decode cX1_join 48 = .ok (.bipush 64, 2) := by decide +kernel
theorem dX1_join_50 : decode cX1_join 50 = .ok (.imul, 1) := by decide +kernel
theorem dX1_join_51 : decode cX1_join 51 = .ok (.bipush 64, 2) := by decide +kernel
theorem dX1_join_53 : decode cX1_join 53 = .ok (.iadd, 1) := by decide +kernel
theorem dX1_join_54 : decode cX1_join 54 = .ok (.iload 4, 2) := by decide +kernel
theorem dX1_join_56 : decode cX1_join 56 = .ok (.bipush 8, 2) := by decide +kernel
theorem dX1_join_58 : decode cX1_join 58 = .ok (.imul, 1) := by decide +kernel
theorem dX1_join_59 : decode cX1_join 59 = .ok (.iadd, 1) := by decide +kernel
theorem dX1_join_60 : decode cX1_join 60 = .ok (.iload_n 2, 1) := by decide +kernel
theorem dX1_join_61 : decode cX1_join 61 = .ok (.bipush 8, 2) := by decide +kernel
theorem dX1_join_63 : decode cX1_join 63 = .ok (.irem, 1) := by decide +kernel
theorem dX1_join_64 : decode cX1_join 64 = .ok (.iadd, 1) := by decide +kernel
theorem dX1_join_65 : decode cX1_join 65 = .ok (.iaload, 1) := by decide +kernel
theorem dX1_join_66 : decode cX1_join 66 = .ok (.istore 6, 2) := by decide +kernel
theorem dX1_join_68 : decode cX1_join 68 = .ok (.aload_n 0, 1) := by decide +kernel
theorem dX1_join_69 : decode cX1_join 69 = .ok (.iload_n 3, 1) := by decide +kernel
theorem dX1_join_70 : decode cX1_join 70 = .ok (.iload 5, 2) := by decide +kernel
theorem dX1_join_72 : decode cX1_join 72 = .ok (.iload 6, 2) := by decide +kernel
theorem dX1_join_74 : decode cX1_join 74 = .ok (.iadd, 1) := by decide +kernel
theorem dX1_join_75 : decode cX1_join 75 = .ok (.invokevirtual 35, 3) := by decide +kernel
theorem dX1_join_78 : decode cX1_join 78 = .ok (.istore_n 3, 1) := by decide +kernel
theorem dX1_join_79 : decode cX1_join 79 = .ok (.iinc 4 1, 3) := by decide +kernel
theorem dX1_join_82 : decode cX1_join 82 = .ok (.goto (-68), 3) := by decide +kernel
theorem dX1_join_85 : decode cX1_join 85 = .ok (.aload_n 0, 1) := by decide +kernel
theorem dX1_join_86 : decode cX1_join 86 = .ok (.getfield 20, 3) := by decide +kernel
theorem dX1_join_89 : decode cX1_join 89 = .ok (.iload_n 1, 1) := by decide +kernel
theorem dX1_join_90 : decode cX1_join 90 = .ok (.bipush 64, 2) := by decide +kernel
theorem dX1_join_92 : decode cX1_join 92 = .ok (.imul, 1) := by decide +kernel
theorem dX1_join_93 : decode cX1_join 93 = .ok (.sipush 128, 3) := by decide +kernel
theorem dX1_join_96 : decode cX1_join 96 = .ok (.iadd, 1) := by decide +kernel
theorem dX1_join_97 : decode cX1_join 97 = .ok (.iload_n 2, 1) := by decide +kernel
theorem dX1_join_98 : decode cX1_join 98 = .ok (.iadd, 1) := by decide +kernel
theorem dX1_join_99 : decode cX1_join 99 = .ok (.iload_n 3, 1) := by decide +kernel
theorem dX1_join_100 : decode cX1_join 100 = .ok (.iastore, 1) := by decide +kernel
theorem dX1_join_101 : decode cX1_join 101 = .ok (.iinc 2 1, 3) := by decide +kernel
theorem dX1_join_104 : decode cX1_join 104 = .ok (.goto (-102), 3) := by decide +kernel
theorem dX1_join_107 : decode cX1_join 107 = .ok (.iconst 0, 1) := by decide +kernel
theorem dX1_join_108 : decode cX1_join 108 = .ok (.istore_n 2, 1) := by decide +kernel
theorem dX1_join_109 : decode cX1_join 109 = .ok (.iload_n 2, 1) := by decide +kernel
theorem dX1_join_110 : decode cX1_join 110 = .ok (.bipush 64, 2) := by decide +kernel
theorem dX1_join_112 : decode cX1_join 112 = .ok (.if_icmp .ge 35, 3) := by decide +kernel
theorem dX1_join_115 : decode cX1_join 115 = .ok (.aload_n 0, 1) := by decide +kernel
theorem dX1_join_116 : decode cX1_join 116 = .ok (.getfield 20, 3) := by decide +kernel
theorem dX1_join_119 : decode cX1_join 119 = .ok (.iload_n 1, 1) := by decide +kernel
theorem dX1_join_120 : decode cX1_join 120 = .ok (.bipush 64, 2) := by decide +kernel
theorem dX1_join_122 : decode cX1_join 122 = .ok (.imul, 1) := by decide +kernel
theorem dX1_join_123 : decode cX1_join 123 = .ok (.iload_n 2, 1) := by decide +kernel
theorem dX1_join_124 : decode cX1_join 124 = .ok (.iadd, 1) := by decide +kernel
theorem dX1_join_125 : decode cX1_join 125 = .ok (.aload_n 0, 1) := by decide +kernel
theorem dX1_join_126 : decode cX1_join 126 = .ok (.getfield 20, 3) := by decide +kernel
theorem dX1_join_129 : decode cX1_join 129 = .ok (.iload_n 1, 1) := by decide +kernel
theorem dX1_join_130 : decode cX1_join 130 = .ok (.bipush 64, 2) := by decide +kernel
theorem dX1_join_132 : decode cX1_join 132 = .ok (.imul, 1) := by decide +kernel
theorem dX1_join_133 : decode cX1_join 133 = .ok (.sipush 128, 3) := by decide +kernel
theorem dX1_join_136 : decode cX1_join 136 = .ok (.iadd, 1) := by decide +kernel
theorem dX1_join_137 : decode cX1_join 137 = .ok (.iload_n 2, 1) := by decide +kernel
theorem dX1_join_138 : decode cX1_join 138 = .ok (.iadd, 1) := by decide +kernel
theorem dX1_join_139 : decode cX1_join 139 = .ok (.iaload, 1) := by decide +kernel
theorem dX1_join_140 : decode cX1_join 140 = .ok (.iastore, 1) := by decide +kernel
theorem dX1_join_141 : decode cX1_join 141 = .ok (.iinc 2 1, 3) := by decide +kernel
theorem dX1_join_144 : decode cX1_join 144 = .ok (.goto (-35), 3) := by decide +kernel
theorem dX1_join_147 : decode cX1_join 147 = .ok (.return_, 1) := by decide +kernel
abbrev cX1_least : ByteArray := prog_3_method_11_code
def yX1_least : MethodName := ⟨RX1, "least", "(II)I"⟩
theorem dX1_least_0 : decode cX1_least 0 = .ok (.iload_n 1, 1) := by decide +kernel
theorem dX1_least_1 : decode cX1_least 1 = .ok (.iload_n 2, 1) := by decide +kernel
theorem dX1_least_2 : decode cX1_least 2 = .ok (.if_icmp .ge 7, 3) := by decide +kernel
theorem dX1_least_5 : decode cX1_least 5 = .ok (.iload_n 1, 1) := by decide +kernel
theorem dX1_least_6 : decode cX1_least 6 = .ok (.goto 4, 3) := by decide +kernel
theorem dX1_least_9 : decode cX1_least 9 = .ok (.iload_n 2, 1) := by decide +kernel
theorem dX1_least_10 : decode cX1_least 10 = .ok (.ireturn, 1) := by decide +kernel
abbrev cX1_close : ByteArray := prog_3_method_14_code
def yX1_close : MethodName := ⟨RX1, "close", "(I)V"⟩
theorem dX1_close_0 : decode cX1_close 0 = .ok (.iconst 0, 1) := by decide +kernel
theorem dX1_close_1 : decode cX1_close 1 = .ok (.istore_n 2, 1) := by decide +kernel
theorem dX1_close_2 : decode cX1_close 2 = .ok (.iload_n 2, 1) := by decide +kernel
theorem dX1_close_3 : decode cX1_close 3 = .ok (.bipush 8, 2) := by decide +kernel
theorem dX1_close_5 : decode cX1_close 5 = .ok (.if_icmp .ge 24, 3) := by decide +kernel
theorem dX1_close_8 : decode cX1_close 8 = .ok (.aload_n 0, 1) := by decide +kernel
theorem dX1_close_9 : decode cX1_close 9 = .ok (.getfield 20, 3) := by decide +kernel
theorem dX1_close_12 : decode cX1_close 12 = .ok (.iload_n 1, 1) := by decide +kernel
theorem dX1_close_13 : decode cX1_close 13 = .ok (.bipush 64, 2) := by decide +kernel
theorem dX1_close_15 : decode cX1_close 15 = .ok (.imul, 1) := by decide +kernel
theorem dX1_close_16 : decode cX1_close 16 = .ok (.iload_n 2, 1) := by decide +kernel
theorem dX1_close_17 : decode cX1_close 17 = .ok (.bipush 9, 2) := by decide +kernel
theorem dX1_close_19 : decode cX1_close 19 = .ok (.imul, 1) := by decide +kernel
theorem dX1_close_20 : decode cX1_close 20 = .ok (.iadd, 1) := by decide +kernel
theorem dX1_close_21 : decode cX1_close 21 = .ok (.iconst 0, 1) := by decide +kernel
theorem dX1_close_22 : decode cX1_close 22 = .ok (.iastore, 1) := by decide +kernel
theorem dX1_close_23 : decode cX1_close 23 = .ok (.iinc 2 1, 3) := by decide +kernel
theorem dX1_close_26 : decode cX1_close 26 = .ok (.goto (-24), 3) := by decide +kernel
theorem dX1_close_29 : decode cX1_close 29 = .ok (.iconst 0, 1) := by decide +kernel
theorem dX1_close_30 : decode cX1_close 30 = .ok (.istore_n 2, 1) := by decide +kernel
theorem dX1_close_31 : decode cX1_close 31 = .ok (.iload_n 2, 1) := by decide +kernel
theorem dX1_close_32 : decode cX1_close 32 = .ok (.bipush 8, 2) := by decide +kernel
theorem dX1_close_34 : decode cX1_close 34 = .ok (.if_icmp .ge 96, 3) := by decide +kernel
theorem dX1_close_37 : decode cX1_close 37 = .ok (.iconst 0, 1) := by decide +kernel
theorem dX1_close_38 : decode cX1_close 38 = .ok (.istore_n 3, 1) := by decide +kernel
theorem dX1_close_39 : decode cX1_close 39 = .ok (.iload_n 3, 1) := by decide +kernel
theorem dX1_close_40 : decode cX1_close 40 = .ok (.bipush 64, 2) := by decide +kernel
theorem dX1_close_42 : decode cX1_close 42 = .ok (.if_icmp .ge 82, 3) := by decide +kernel
theorem dX1_close_45 : decode cX1_close 45 = .ok (.aload_n 0, 1) := by decide +kernel
theorem dX1_close_46 : decode cX1_close 46 = .ok (.getfield 20, 3) := by decide +kernel
theorem dX1_close_49 : decode cX1_close 49 = .ok (.iload_n 1, 1) := by decide +kernel
theorem dX1_close_50 : decode cX1_close 50 = .ok (.bipush 64, 2) := by decide +kernel
theorem dX1_close_52 : decode cX1_close 52 = .ok (.imul, 1) := by decide +kernel
theorem dX1_close_53 : decode cX1_close 53 = .ok (.iload_n 3, 1) := by decide +kernel
theorem dX1_close_54 : decode cX1_close 54 = .ok (.bipush 8, 2) := by decide +kernel
theorem dX1_close_56 : decode cX1_close 56 = .ok (.idiv, 1) := by decide +kernel
theorem dX1_close_57 : decode cX1_close 57 = .ok (.bipush 8, 2) := by decide +kernel
theorem dX1_close_59 : decode cX1_close 59 = .ok (.imul, 1) := by decide +kernel
theorem dX1_close_60 : decode cX1_close 60 = .ok (.iadd, 1) := by decide +kernel
theorem dX1_close_61 : decode cX1_close 61 = .ok (.iload_n 2, 1) := by decide +kernel
theorem dX1_close_62 : decode cX1_close 62 = .ok (.iadd, 1) := by decide +kernel
theorem dX1_close_63 : decode cX1_close 63 = .ok (.iaload, 1) := by decide +kernel
theorem dX1_close_64 : decode cX1_close 64 = .ok (.istore 4, 2) := by decide +kernel
theorem dX1_close_66 : decode cX1_close 66 = .ok (.aload_n 0, 1) := by decide +kernel
theorem dX1_close_67 : decode cX1_close 67 = .ok (.getfield 20, 3) := by decide +kernel
theorem dX1_close_70 : decode cX1_close 70 = .ok (.iload_n 1, 1) := by decide +kernel
theorem dX1_close_71 : decode cX1_close 71 = .ok (.bipush 64, 2) := by decide +kernel
theorem dX1_close_73 : decode cX1_close 73 = .ok (.imul, 1) := by decide +kernel
theorem dX1_close_74 : decode cX1_close 74 = .ok (.iload_n 2, 1) := by decide +kernel
theorem dX1_close_75 : decode cX1_close 75 = .ok (.bipush 8, 2) := by decide +kernel
theorem dX1_close_77 : decode cX1_close 77 = .ok (.imul, 1) := by decide +kernel
theorem dX1_close_78 : decode cX1_close 78 = .ok (.iadd, 1) := by decide +kernel
theorem dX1_close_79 : decode cX1_close 79 = .ok (.iload_n 3, 1) := by decide +kernel
theorem dX1_close_80 : decode cX1_close 80 = .ok (.bipush 8, 2) := by decide +kernel
theorem dX1_close_82 : decode cX1_close 82 = .ok (.irem, 1) := by decide +kernel
theorem dX1_close_83 : decode cX1_close 83 = .ok (.iadd, 1) := by decide +kernel
theorem dX1_close_84 : decode cX1_close 84 = .ok (.iaload, 1) := by decide +kernel
theorem dX1_close_85 : decode cX1_close 85 = .ok (.istore 5, 2) := by decide +kernel
theorem dX1_close_87 : decode cX1_close 87 = .ok (.aload_n 0, 1) := by decide +kernel
theorem dX1_close_88 : decode cX1_close 88 = .ok (.getfield 20, 3) := by decide +kernel
theorem dX1_close_91 : decode cX1_close 91 = .ok (.iload_n 1, 1) := by decide +kernel
theorem dX1_close_92 : decode cX1_close 92 = .ok (.bipush 64, 2) := by decide +kernel
theorem dX1_close_94 : decode cX1_close 94 = .ok (.imul, 1) := by decide +kernel
theorem dX1_close_95 : decode cX1_close 95 = .ok (.iload_n 3, 1) := by decide +kernel
theorem dX1_close_96 : decode cX1_close 96 = .ok (.iadd, 1) := by decide +kernel
theorem dX1_close_97 : decode cX1_close 97 = .ok (.aload_n 0, 1) := by decide +kernel
theorem dX1_close_98 : decode cX1_close 98 = .ok (.aload_n 0, 1) := by decide +kernel
theorem dX1_close_99 : decode cX1_close 99 = .ok (.getfield 20, 3) := by decide +kernel
theorem dX1_close_102 : decode cX1_close 102 = .ok (.iload_n 1, 1) := by decide +kernel
theorem dX1_close_103 : decode cX1_close 103 = .ok (.bipush 64, 2) := by decide +kernel
theorem dX1_close_105 : decode cX1_close 105 = .ok (.imul, 1) := by decide +kernel
theorem dX1_close_106 : decode cX1_close 106 = .ok (.iload_n 3, 1) := by decide +kernel
theorem dX1_close_107 : decode cX1_close 107 = .ok (.iadd, 1) := by decide +kernel
theorem dX1_close_108 : decode cX1_close 108 = .ok (.iaload, 1) := by decide +kernel
theorem dX1_close_109 : decode cX1_close 109 = .ok (.iload 4, 2) := by decide +kernel
theorem dX1_close_111 : decode cX1_close 111 = .ok (.iload 5, 2) := by decide +kernel
theorem dX1_close_113 : decode cX1_close 113 = .ok (.iadd, 1) := by decide +kernel
theorem dX1_close_114 : decode cX1_close 114 = .ok (.invokevirtual 35, 3) := by decide +kernel
theorem dX1_close_117 : decode cX1_close 117 = .ok (.iastore, 1) := by decide +kernel
theorem dX1_close_118 : decode cX1_close 118 = .ok (.iinc 3 1, 3) := by decide +kernel
theorem dX1_close_121 : decode cX1_close 121 = .ok (.goto (-82), 3) := by decide +kernel
theorem dX1_close_124 : decode cX1_close 124 = .ok (.iinc 2 1, 3) := by decide +kernel
theorem dX1_close_127 : decode cX1_close 127 = .ok (.goto (-96), 3) := by decide +kernel
theorem dX1_close_130 : decode cX1_close 130 = .ok (.return_, 1) := by decide +kernel
abbrev cX1_length : ByteArray := prog_3_method_17_code
def yX1_length : MethodName := ⟨RX1, "length", "(III)I"⟩
theorem dX1_length_0 : decode cX1_length 0 = .ok (.iload_n 1, 1) := by decide +kernel
theorem dX1_length_1 : decode cX1_length 1 = .ok (.ifCond .ge 8, 3) := by decide +kernel
theorem dX1_length_4 : decode cX1_length 4 = .ok (.ldc 34, 2) := by decide +kernel
theorem dX1_length_6 : decode cX1_length 6 = .ok (.goto 25, 3) := by decide +kernel
theorem dX1_length_9 : decode cX1_length 9 = .ok (.aload_n 0, 1) := by decide +kernel
theorem dX1_length_10 : decode cX1_length 10 = .ok (.ldc 34, 2) := by decide +kernel
theorem dX1_length_12 : decode cX1_length 12 = .ok (.aload_n 0, 1) := by decide +kernel
theorem dX1_length_13 : decode cX1_length 13 = .ok (.getfield 20, 3) := by decide +kernel
theorem dX1_length_16 : decode cX1_length 16 = .ok (.iload_n 1, 1) := by decide +kernel
theorem dX1_length_17 : decode cX1_length 17 = .ok (.bipush 64, 2) := by decide +kernel
theorem dX1_length_19 : decode cX1_length 19 = .ok (.imul, 1) := by decide +kernel
theorem dX1_length_20 : decode cX1_length 20 = .ok (.iload_n 2, 1) := by decide +kernel
theorem dX1_length_21 : decode cX1_length 21 = .ok (.bipush 8, 2) := by decide +kernel
theorem dX1_length_23 : decode cX1_length 23 = .ok (.imul, 1) := by decide +kernel
theorem dX1_length_24 : decode cX1_length 24 = .ok (.iadd, 1) := by decide +kernel
theorem dX1_length_25 : decode cX1_length 25 = .ok (.iload_n 3, 1) := by decide +kernel
theorem dX1_length_26 : decode cX1_length 26 = .ok (.iadd, 1) := by decide +kernel
theorem dX1_length_27 : decode cX1_length 27 = .ok (.iaload, 1) := by decide +kernel
theorem dX1_length_28 : decode cX1_length 28 = .ok (.invokevirtual 35, 3) := by decide +kernel
theorem dX1_length_31 : decode cX1_length 31 = .ok (.ireturn, 1) := by decide +kernel
abbrev cX1_shortest : ByteArray := prog_3_method_19_code
def yX1_shortest : MethodName := ⟨RX1, "shortest", "(II)I"⟩
theorem dX1_shortest_0 : decode cX1_shortest 0 = .ok (.aload_n 0, 1) := by decide +kernel
theorem dX1_shortest_1 : decode cX1_shortest 1 = .ok (.iload_n 1, 1) := by decide +kernel
theorem dX1_shortest_2 : decode cX1_shortest 2 = .ok (.invokevirtual 50, 3) := by decide +kernel
theorem dX1_shortest_5 : decode cX1_shortest 5 = .ok (.ifCond .ne 11, 3) := by decide +kernel
theorem dX1_shortest_8 : decode cX1_shortest 8 = .ok (.aload_n 0, 1) := by decide +kernel
theorem dX1_shortest_9 : decode cX1_shortest 9 = .ok (.iload_n 2, 1) := by decide +kernel
theorem dX1_shortest_10 : decode cX1_shortest 10 = .ok (.invokevirtual 50, 3) := by decide +kernel
theorem dX1_shortest_13 : decode cX1_shortest 13 = .ok (.ifCond .eq 6, 3) := by decide +kernel
theorem dX1_shortest_16 : decode cX1_shortest 16 = .ok (.bipush (-2), 2) := by decide +kernel
theorem dX1_shortest_18 : decode cX1_shortest 18 = .ok (.ireturn, 1) := by decide +kernel
theorem dX1_shortest_19 : decode cX1_shortest 19 = .ok (.aload_n 0, 1) := by decide +kernel
theorem dX1_shortest_20 : decode cX1_shortest 20 = .ok (.invokevirtual 54, 3) := by decide +kernel
theorem dX1_shortest_23 : decode cX1_shortest 23 = .ok (.istore_n 3, 1) := by decide +kernel
theorem dX1_shortest_24 : decode cX1_shortest 24 = .ok (.aload_n 0, 1) := by decide +kernel
theorem dX1_shortest_25 : decode cX1_shortest 25 = .ok (.iload_n 3, 1) := by decide +kernel
theorem dX1_shortest_26 : decode cX1_shortest 26 = .ok (.iload_n 1, 1) := by decide +kernel
theorem dX1_shortest_27 : decode cX1_shortest 27 = .ok (.iload_n 2, 1) := by decide +kernel
theorem dX1_shortest_28 : decode cX1_shortest 28 = .ok (.invokevirtual 58, 3) := by decide +kernel
theorem dX1_shortest_31 : decode cX1_shortest 31 = .ok (.istore 4, 2) := by decide +kernel
theorem dX1_shortest_33 : decode cX1_shortest 33 = .ok (.iload 4, 2) := by decide +kernel
theorem dX1_shortest_35 : decode cX1_shortest 35 = .ok (.ldc 34, 2) := by decide +kernel
theorem dX1_shortest_37 : decode cX1_shortest 37 = .ok (.if_icmp .ge 8, 3) := by decide +kernel
theorem dX1_shortest_40 : decode cX1_shortest 40 = .ok (.iload 4, 2) := by decide +kernel
theorem dX1_shortest_42 : decode cX1_shortest 42 = .ok (.goto 5, 3) := by decide +kernel
theorem dX1_shortest_45 : decode cX1_shortest 45 = .ok (.bipush (-5), 2) := by decide +kernel
theorem dX1_shortest_47 : decode cX1_shortest 47 = .ok (.ireturn, 1) := by decide +kernel
abbrev cX1_reach : ByteArray := prog_3_method_20_code
def yX1_reach : MethodName := ⟨RX1, "reach", "(I)I"⟩
theorem dX1_reach_0 : decode cX1_reach 0 = .ok (.aload_n 0, 1) := by decide +kernel
theorem dX1_reach_1 : decode cX1_reach 1 = .ok (.iload_n 1, 1) := by decide +kernel
theorem dX1_reach_2 : decode cX1_reach 2 = .ok (.invokevirtual 50, 3) := by decide +kernel
theorem dX1_reach_5 : decode cX1_reach 5 = .ok (.ifCond .eq 6, 3) := by decide +kernel
theorem dX1_reach_8 : decode cX1_reach 8 = .ok (.bipush (-2), 2) := by decide +kernel
theorem dX1_reach_10 : decode cX1_reach 10 = .ok (.ireturn, 1) := by decide +kernel
theorem dX1_reach_11 : decode cX1_reach 11 = .ok (.aload_n 0, 1) := by decide +kernel
theorem dX1_reach_12 : decode cX1_reach 12 = .ok (.invokevirtual 54, 3) := by decide +kernel
theorem dX1_reach_15 : decode cX1_reach 15 = .ok (.istore_n 2, 1) := by decide +kernel
theorem dX1_reach_16 : decode cX1_reach 16 = .ok (.iconst 0, 1) := by decide +kernel
theorem dX1_reach_17 : decode cX1_reach 17 = .ok (.istore_n 3, 1) := by decide +kernel
theorem dX1_reach_18 : decode cX1_reach 18 = .ok (.iconst 0, 1) := by decide +kernel
theorem dX1_reach_19 : decode cX1_reach 19 = .ok (.istore 4, 2) := by decide +kernel
theorem dX1_reach_21 : decode cX1_reach 21 = .ok (.iload 4, 2) := by decide +kernel
theorem dX1_reach_23 : decode cX1_reach 23 = .ok (.bipush 8, 2) := by decide +kernel
theorem dX1_reach_25 : decode cX1_reach 25 = .ok (.if_icmp .ge 29, 3) := by decide +kernel
theorem dX1_reach_28 : decode cX1_reach 28 = .ok (.aload_n 0, 1) := by decide +kernel
theorem dX1_reach_29 : decode cX1_reach 29 = .ok (.iload_n 2, 1) := by decide +kernel
theorem dX1_reach_30 : decode cX1_reach 30 = .ok (.iload_n 1, 1) := by decide +kernel
theorem dX1_reach_31 : decode cX1_reach 31 = .ok (.iload 4, 2) := by decide +kernel
theorem dX1_reach_33 : decode cX1_reach 33 = .ok (.invokevirtual 58, 3) := by decide +kernel
theorem dX1_reach_36 : decode cX1_reach 36 = .ok (.ldc 34, 2) := by decide +kernel
theorem dX1_reach_38 : decode cX1_reach 38 = .ok (.if_icmp .ge 10, 3) := by decide +kernel
theorem dX1_reach_41 : decode cX1_reach 41 = .ok (.iload_n 3, 1) := by decide +kernel
theorem dX1_reach_42 : decode cX1_reach 42 = .ok (.iconst 1, 1) := by decide +kernel
theorem dX1_reach_43 : decode cX1_reach 43 = .ok (.iload 4, 2) := by decide +kernel
theorem dX1_reach_45 : decode cX1_reach 45 = .ok (.ishl, 1) := by decide +kernel
theorem dX1_reach_46 : decode cX1_reach 46 = .ok (.ior, 1) := by decide +kernel
theorem dX1_reach_47 : decode cX1_reach 47 = .ok (.istore_n 3, 1) := by decide +kernel
theorem dX1_reach_48 : decode cX1_reach 48 = .ok (.iinc 4 1, 3) := by decide +kernel
theorem dX1_reach_51 : decode cX1_reach 51 = .ok (.goto (-30), 3) := by decide +kernel
theorem dX1_reach_54 : decode cX1_reach 54 = .ok (.iload_n 3, 1) := by decide +kernel
theorem dX1_reach_55 : decode cX1_reach 55 = .ok (.ireturn, 1) := by decide +kernel
abbrev cX1_pairs : ByteArray := prog_3_method_21_code
def yX1_pairs : MethodName := ⟨RX1, "pairs", "()I"⟩
theorem dX1_pairs_0 : decode cX1_pairs 0 = .ok (.aload_n 0, 1) := by decide +kernel
theorem dX1_pairs_1 : decode cX1_pairs 1 = .ok (.invokevirtual 54, 3) := by decide +kernel
theorem dX1_pairs_4 : decode cX1_pairs 4 = .ok (.istore_n 1, 1) := by decide +kernel
theorem dX1_pairs_5 : decode cX1_pairs 5 = .ok (.iconst 0, 1) := by decide +kernel
theorem dX1_pairs_6 : decode cX1_pairs 6 = .ok (.istore_n 2, 1) := by decide +kernel
theorem dX1_pairs_7 : decode cX1_pairs 7 = .ok (.iconst 0, 1) := by decide +kernel
theorem dX1_pairs_8 : decode cX1_pairs 8 = .ok (.istore_n 3, 1) := by decide +kernel
theorem dX1_pairs_9 : decode cX1_pairs 9 = .ok (.iload_n 3, 1) := by decide +kernel
theorem dX1_pairs_10 : decode cX1_pairs 10 = .ok (.bipush 64, 2) := by decide +kernel
theorem dX1_pairs_12 : decode cX1_pairs 12 = .ok (.if_icmp .ge 30, 3) := by decide +kernel
theorem dX1_pairs_15 : decode cX1_pairs 15 = .ok (.aload_n 0, 1) := by decide +kernel
theorem dX1_pairs_16 : decode cX1_pairs 16 = .ok (.iload_n 1, 1) := by decide +kernel
theorem dX1_pairs_17 : decode cX1_pairs 17 = .ok (.iload_n 3, 1) := by decide +kernel
theorem dX1_pairs_18 : decode cX1_pairs 18 = .ok (.bipush 8, 2) := by decide +kernel
theorem dX1_pairs_20 : decode cX1_pairs 20 = .ok (.idiv, 1) := by decide +kernel
theorem dX1_pairs_21 : decode cX1_pairs 21 = .ok (.iload_n 3, 1) := by decide +kernel
theorem dX1_pairs_22 : decode cX1_pairs 22 = .ok (.bipush 8, 2) := by decide +kernel
theorem dX1_pairs_24 : decode cX1_pairs 24 = .ok (.irem, 1) := by decide +kernel
theorem dX1_pairs_25 : decode cX1_pairs 25 = .ok (.invokevirtual 58, 3) := by decide +kernel
theorem dX1_pairs_28 : decode cX1_pairs 28 = .ok (.ldc 34, 2) := by decide +kernel
theorem dX1_pairs_30 : decode cX1_pairs 30 = .ok (.if_icmp .ge 6, 3) := by decide +kernel
theorem dX1_pairs_33 : decode cX1_pairs 33 = .ok (.iinc 2 1, 3) := by decide +kernel
theorem dX1_pairs_36 : decode cX1_pairs 36 = .ok (.iinc 3 1, 3) := by decide +kernel
theorem dX1_pairs_39 : decode cX1_pairs 39 = .ok (.goto (-30), 3) := by decide +kernel
theorem dX1_pairs_42 : decode cX1_pairs 42 = .ok (.iload_n 2, 1) := by decide +kernel
theorem dX1_pairs_43 : decode cX1_pairs 43 = .ok (.ireturn, 1) := by decide +kernel
end
section
set_option maxRecDepth 100000
abbrev cX1_loops : ByteArray := prog_3_method_22_code
def yX1_loops : MethodName := ⟨RX1, "loops", "()I"⟩
theorem dX1_loops_0 : decode cX1_loops 0 = .ok (.aload_n 0, 1) := by decide +kernel
theorem dX1_loops_1 : decode cX1_loops 1 = .ok (.invokevirtual 54, 3) := by decide +kernel
theorem dX1_loops_4 : decode cX1_loops 4 = .ok (.istore_n 1, 1) := by decide +kernel
theorem dX1_loops_5 : decode cX1_loops 5 = .ok (.iconst 0, 1) := by decide +kernel
theorem dX1_loops_6 : decode cX1_loops 6 = .ok (.istore_n 2, 1) := by decide +kernel
theorem dX1_loops_7 : decode cX1_loops 7 = .ok (.iconst 0, 1) := by decide +kernel
theorem dX1_loops_8 : decode cX1_loops 8 = .ok (.istore_n 3, 1) := by decide +kernel
theorem dX1_loops_9 : decode cX1_loops 9 = .ok (.iload_n 3, 1) := by decide +kernel
theorem dX1_loops_10 : decode cX1_loops 10 = .ok (.bipush 8, 2) := by decide +kernel
theorem dX1_loops_12 : decode cX1_loops 12 = .ok (.if_icmp .ge 27, 3) := by decide +kernel
theorem dX1_loops_15 : decode cX1_loops 15 = .ok (.aload_n 0, 1) := by decide +kernel
theorem dX1_loops_16 : decode cX1_loops 16 = .ok (.iload_n 1, 1) := by decide +kernel
theorem dX1_loops_17 : decode cX1_loops 17 = .ok (.iload_n 3, 1) := by decide +kernel
theorem dX1_loops_18 : decode cX1_loops 18 = .ok (.iload_n 3, 1) := by decide +kernel
theorem dX1_loops_19 : decode cX1_loops 19 = .ok (.invokevirtual 58, 3) := by decide +kernel
theorem dX1_loops_22 : decode cX1_loops 22 = .ok (.ldc 34, 2) := by decide +kernel
theorem dX1_loops_24 : decode cX1_loops 24 = .ok (.if_icmp .ge 9, 3) := by decide +kernel
theorem dX1_loops_27 : decode cX1_loops 27 = .ok (.iload_n 2, 1) := by decide +kernel
theorem dX1_loops_28 : decode cX1_loops 28 = .ok (.iconst 1, 1) := by decide +kernel
theorem dX1_loops_29 : decode cX1_loops 29 = .ok (.iload_n 3, 1) := by decide +kernel
theorem dX1_loops_30 : decode cX1_loops 30 = .ok (.ishl, 1) := by decide +kernel
theorem dX1_loops_31 : decode cX1_loops 31 = .ok (.ior, 1) := by decide +kernel
theorem dX1_loops_32 : decode cX1_loops 32 = .ok (.istore_n 2, 1) := by decide +kernel
theorem dX1_loops_33 : decode cX1_loops 33 = .ok (.iinc 3 1, 3) := by decide +kernel
theorem dX1_loops_36 : decode cX1_loops 36 = .ok (.goto (-27), 3) := by decide +kernel
theorem dX1_loops_39 : decode cX1_loops 39 = .ok (.iload_n 2, 1) := by decide +kernel
theorem dX1_loops_40 : decode cX1_loops 40 = .ok (.ireturn, 1) := by decide +kernel
abbrev cX1_widest : ByteArray := prog_3_method_23_code
def yX1_widest : MethodName := ⟨RX1, "widest", "()I"⟩
theorem dX1_widest_0 : decode cX1_widest 0 = .ok (.aload_n 0, 1) := by decide +kernel
theorem dX1_widest_1 : decode cX1_widest 1 = .ok (.invokevirtual 54, 3) := by decide +kernel
theorem dX1_widest_4 : decode cX1_widest 4 = .ok (.istore_n 1, 1) := by decide +kernel
theorem dX1_widest_5 : decode cX1_widest 5 = .ok (.bipush (-5), 2) := by decide +kernel
theorem dX1_widest_7 : decode cX1_widest 7 = .ok (.istore_n 2, 1) := by decide +kernel
theorem dX1_widest_8 : decode cX1_widest 8 = .ok (.iconst 0, 1) := by decide +kernel
theorem dX1_widest_9 : decode cX1_widest 9 = .ok (.istore_n 3, 1) := by decide +kernel
theorem dX1_widest_10 : decode cX1_widest 10 = .ok (.iload_n 3, 1) := by decide +kernel
theorem dX1_widest_11 : decode cX1_widest 11 = .ok (.bipush 64, 2) := by decide +kernel
theorem dX1_widest_13 : decode cX1_widest 13 = .ok (.if_icmp .ge 40, 3) := by decide +kernel
theorem dX1_widest_16 : decode cX1_widest 16 = .ok (.aload_n 0, 1) := by decide +kernel
theorem dX1_widest_17 : decode cX1_widest 17 = .ok (.iload_n 1, 1) := by decide +kernel
theorem dX1_widest_18 : decode cX1_widest 18 = .ok (.iload_n 3, 1) := by decide +kernel
theorem dX1_widest_19 : decode cX1_widest 19 = .ok (.bipush 8, 2) := by decide +kernel
theorem dX1_widest_21 : decode cX1_widest 21 = .ok (.idiv, 1) := by decide +kernel
theorem dX1_widest_22 : decode cX1_widest 22 = .ok (.iload_n 3, 1) := by decide +kernel
theorem dX1_widest_23 : decode cX1_widest 23 = .ok (.bipush 8, 2) := by decide +kernel
theorem dX1_widest_25 : decode cX1_widest 25 = .ok (.irem, 1) := by decide +kernel
theorem dX1_widest_26 : decode cX1_widest 26 = .ok (.invokevirtual 58, 3) := by decide +kernel
theorem dX1_widest_29 : decode cX1_widest 29 = .ok (.istore 4, 2) := by decide +kernel
theorem dX1_widest_31 : decode cX1_widest 31 = .ok (.iload 4, 2) := by decide +kernel
theorem dX1_widest_33 : decode cX1_widest 33 = .ok (.ldc 34, 2) := by decide +kernel
theorem dX1_widest_35 : decode cX1_widest 35 = .ok (.if_icmp .ge 12, 3) := by decide +kernel
theorem dX1_widest_38 : decode cX1_widest 38 = .ok (.iload 4, 2) := by decide +kernel
theorem dX1_widest_40 : decode cX1_widest 40 = .ok (.iload_n 2, 1) := by decide +kernel
theorem dX1_widest_41 : decode cX1_widest 41 = .ok (.if_icmp .le 6, 3) := by decide +kernel
theorem dX1_widest_44 : decode cX1_widest 44 = .ok (.iload 4, 2) := by decide +kernel
theorem dX1_widest_46 : decode cX1_widest 46 = .ok (.istore_n 2, 1) := by decide +kernel
theorem dX1_widest_47 : decode cX1_widest 47 = .ok (.iinc 3 1, 3) := by decide +kernel
theorem dX1_widest_50 : decode cX1_widest 50 = .ok (.goto (-40), 3) := by decide +kernel
theorem dX1_widest_53 : decode cX1_widest 53 = .ok (.iload_n 2, 1) := by decide +kernel
theorem dX1_widest_54 : decode cX1_widest 54 = .ok (.ireturn, 1) := by decide +kernel
abbrev cX1_steps : ByteArray := prog_3_method_24_code
def yX1_steps : MethodName := ⟨RX1, "steps", "()I"⟩
theorem dX1_steps_0 : decode cX1_steps 0 = .ok (.aload_n 0, 1) := by decide +kernel
theorem dX1_steps_1 : decode cX1_steps 1 = .ok (.getfield 23, 3) := by decide +kernel
theorem dX1_steps_4 : decode cX1_steps 4 = .ok (.ireturn, 1) := by decide +kernel
end
section
set_option maxRecDepth 100000
/-! the law's own entry -/
abbrev cL_law : ByteArray := code
theorem dL_law_0 : decode cL_law 0 = .ok (.new 7, 3) := by decide +kernel
theorem dL_law_3 : decode cL_law 3 = .ok (.dup, 1) := by decide +kernel
theorem dL_law_4 : decode cL_law 4 = .ok (.invokespecial 9, 3) := by decide +kernel
theorem dL_law_7 : decode cL_law 7 = .ok (.astore_n 1, 1) := by decide +kernel
theorem dL_law_8 : decode cL_law 8 = .ok (.new 10, 3) := by decide +kernel
theorem dL_law_11 : decode cL_law 11 = .ok (.dup, 1) := by decide +kernel
theorem dL_law_12 : decode cL_law 12 = .ok (.invokespecial 12, 3) := by decide +kernel
theorem dL_law_15 : decode cL_law 15 = .ok (.astore_n 2, 1) := by decide +kernel
theorem dL_law_16 : decode cL_law 16 = .ok (.iconst 0, 1) := by decide +kernel
theorem dL_law_17 : decode cL_law 17 = .ok (.istore_n 3, 1) := by decide +kernel
theorem dL_law_18 : decode cL_law 18 = .ok (.iload_n 3, 1) := by decide +kernel
theorem dL_law_19 : decode cL_law 19 = .ok (.aload_n 0, 1) := by decide +kernel
theorem dL_law_20 : decode cL_law 20 = .ok (.arraylength, 1) := by decide +kernel
theorem dL_law_21 : decode cL_law 21 = .ok (.iconst 4, 1) := by decide +kernel
theorem dL_law_22 : decode cL_law 22 = .ok (.isub, 1) := by decide +kernel
theorem dL_law_23 : decode cL_law 23 = .ok (.if_icmp .gt 410, 3) := by decide +kernel
theorem dL_law_26 : decode cL_law 26 = .ok (.aload_n 0, 1) := by decide +kernel
theorem dL_law_27 : decode cL_law 27 = .ok (.iload_n 3, 1) := by decide +kernel
theorem dL_law_28 : decode cL_law 28 = .ok (.iaload, 1) := by decide +kernel
theorem dL_law_29 : decode cL_law 29 = .ok (.bipush 15, 2) := by decide +kernel
theorem dL_law_31 : decode cL_law 31 = .ok (.iand, 1) := by decide +kernel
theorem dL_law_32 : decode cL_law 32 = .ok (.tableswitch 395 0 14 #[76, 135, 158, 181, 204, 217, 230, 243, 254, 287, 320, 343, 356, 369, 382], 76) := by decide +kernel
theorem dL_law_108 : decode cL_law 108 = .ok (.aload_n 1, 1) := by decide +kernel
theorem dL_law_109 : decode cL_law 109 = .ok (.aload_n 0, 1) := by decide +kernel
theorem dL_law_110 : decode cL_law 110 = .ok (.iload_n 3, 1) := by decide +kernel
theorem dL_law_111 : decode cL_law 111 = .ok (.iconst 1, 1) := by decide +kernel
theorem dL_law_112 : decode cL_law 112 = .ok (.iadd, 1) := by decide +kernel
theorem dL_law_113 : decode cL_law 113 = .ok (.iaload, 1) := by decide +kernel
theorem dL_law_114 : decode cL_law 114 = .ok (.aload_n 0, 1) := by decide +kernel
theorem dL_law_115 : decode cL_law 115 = .ok (.iload_n 3, 1) := by decide +kernel
theorem dL_law_116 : decode cL_law 116 = .ok (.iconst 2, 1) := by decide +kernel
theorem dL_law_117 : decode cL_law 117 = .ok (.iadd, 1) := by decide +kernel
theorem dL_law_118 : decode cL_law 118 = .ok (.iaload, 1) := by decide +kernel
theorem dL_law_119 : decode cL_law 119 = .ok (.aload_n 0, 1) := by decide +kernel
theorem dL_law_120 : decode cL_law 120 = .ok (.iload_n 3, 1) := by decide +kernel
theorem dL_law_121 : decode cL_law 121 = .ok (.iconst 3, 1) := by decide +kernel
theorem dL_law_122 : decode cL_law 122 = .ok (.iadd, 1) := by decide +kernel
theorem dL_law_123 : decode cL_law 123 = .ok (.iaload, 1) := by decide +kernel
theorem dL_law_124 : decode cL_law 124 = .ok (.ifCond .eq 7, 3) := by decide +kernel
theorem dL_law_127 : decode cL_law 127 = .ok (.iconst 1, 1) := by decide +kernel
theorem dL_law_128 : decode cL_law 128 = .ok (.goto 4, 3) := by decide +kernel
theorem dL_law_131 : decode cL_law 131 = .ok (.iconst 0, 1) := by decide +kernel
theorem dL_law_132 : decode cL_law 132 = .ok (.invokevirtual 13, 3) := by decide +kernel
theorem dL_law_135 : decode cL_law 135 = .ok (.aload_n 2, 1) := by decide +kernel
theorem dL_law_136 : decode cL_law 136 = .ok (.aload_n 0, 1) := by decide +kernel
theorem dL_law_137 : decode cL_law 137 = .ok (.iload_n 3, 1) := by decide +kernel
theorem dL_law_138 : decode cL_law 138 = .ok (.iconst 1, 1) := by decide +kernel
theorem dL_law_139 : decode cL_law 139 = .ok (.iadd, 1) := by decide +kernel
theorem dL_law_140 : decode cL_law 140 = .ok (.iaload, 1) := by decide +kernel
theorem dL_law_141 : decode cL_law 141 = .ok (.aload_n 0, 1) := by decide +kernel
theorem dL_law_142 : decode cL_law 142 = .ok (.iload_n 3, 1) := by decide +kernel
theorem dL_law_143 : decode cL_law 143 = .ok (.iconst 2, 1) := by decide +kernel
theorem dL_law_144 : decode cL_law 144 = .ok (.iadd, 1) := by decide +kernel
theorem dL_law_145 : decode cL_law 145 = .ok (.iaload, 1) := by decide +kernel
theorem dL_law_146 : decode cL_law 146 = .ok (.aload_n 0, 1) := by decide +kernel
theorem dL_law_147 : decode cL_law 147 = .ok (.iload_n 3, 1) := by decide +kernel
theorem dL_law_148 : decode cL_law 148 = .ok (.iconst 3, 1) := by decide +kernel
theorem dL_law_149 : decode cL_law 149 = .ok (.iadd, 1) := by decide +kernel
theorem dL_law_150 : decode cL_law 150 = .ok (.iaload, 1) := by decide +kernel
theorem dL_law_151 : decode cL_law 151 = .ok (.ifCond .eq 7, 3) := by decide +kernel
theorem dL_law_154 : decode cL_law 154 = .ok (.iconst 1, 1) := by decide +kernel
theorem dL_law_155 : decode cL_law 155 = .ok (.goto 4, 3) := by decide +kernel
theorem dL_law_158 : decode cL_law 158 = .ok (.iconst 0, 1) := by decide +kernel
theorem dL_law_159 : decode cL_law 159 = .ok (.invokevirtual 17, 3) := by decide +kernel
theorem dL_law_162 : decode cL_law 162 = .ok (.if_icmp .eq 265, 3) := by decide +kernel
theorem dL_law_165 : decode cL_law 165 = .ok (.iconst 0, 1) := by decide +kernel
theorem dL_law_166 : decode cL_law 166 = .ok (.ireturn, 1) := by decide +kernel
theorem dL_law_167 : decode cL_law 167 = .ok (.aload_n 1, 1) := by decide +kernel
theorem dL_law_168 : decode cL_law 168 = .ok (.aload_n 0, 1) := by decide +kernel
theorem dL_law_169 : decode cL_law 169 = .ok (.iload_n 3, 1) := by decide +kernel
theorem dL_law_170 : decode cL_law 170 = .ok (.iconst 1, 1) := by decide +kernel
theorem dL_law_171 : decode cL_law 171 = .ok (.iadd, 1) := by decide +kernel
theorem dL_law_172 : decode cL_law 172 = .ok (.iaload, 1) := by decide +kernel
theorem dL_law_173 : decode cL_law 173 = .ok (.invokevirtual 18, 3) := by decide +kernel
theorem dL_law_176 : decode cL_law 176 = .ok (.aload_n 2, 1) := by decide +kernel
theorem dL_law_177 : decode cL_law 177 = .ok (.aload_n 0, 1) := by decide +kernel
theorem dL_law_178 : decode cL_law 178 = .ok (.iload_n 3, 1) := by decide +kernel
theorem dL_law_179 : decode cL_law 179 = .ok (.iconst 1, 1) := by decide +kernel
theorem dL_law_180 : decode cL_law 180 = .ok (.iadd, 1) := by decide +kernel
theorem dL_law_181 : decode cL_law 181 = .ok (.iaload, 1) := by decide +kernel
theorem dL_law_182 : decode cL_law 182 = .ok (.invokevirtual 22, 3) := by decide +kernel
theorem dL_law_185 : decode cL_law 185 = .ok (.if_icmp .eq 242, 3) := by decide +kernel
theorem dL_law_188 : decode cL_law 188 = .ok (.iconst 0, 1) := by decide +kernel
theorem dL_law_189 : decode cL_law 189 = .ok (.ireturn, 1) := by decide +kernel
theorem dL_law_190 : decode cL_law 190 = .ok (.aload_n 1, 1) := by decide +kernel
theorem dL_law_191 : decode cL_law 191 = .ok (.aload_n 0, 1) := by decide +kernel
theorem dL_law_192 : decode cL_law 192 = .ok (.iload_n 3, 1) := by decide +kernel
theorem dL_law_193 : decode cL_law 193 = .ok (.iconst 1, 1) := by decide +kernel
theorem dL_law_194 : decode cL_law 194 = .ok (.iadd, 1) := by decide +kernel
theorem dL_law_195 : decode cL_law 195 = .ok (.iaload, 1) := by decide +kernel
theorem dL_law_196 : decode cL_law 196 = .ok (.invokevirtual 23, 3) := by decide +kernel
theorem dL_law_199 : decode cL_law 199 = .ok (.aload_n 2, 1) := by decide +kernel
theorem dL_law_200 : decode cL_law 200 = .ok (.aload_n 0, 1) := by decide +kernel
theorem dL_law_201 : decode cL_law 201 = .ok (.iload_n 3, 1) := by decide +kernel
theorem dL_law_202 : decode cL_law 202 = .ok (.iconst 1, 1) := by decide +kernel
theorem dL_law_203 : decode cL_law 203 = .ok (.iadd, 1) := by decide +kernel
theorem dL_law_204 : decode cL_law 204 = .ok (.iaload, 1) := by decide +kernel
theorem dL_law_205 : decode cL_law 205 = .ok (.invokevirtual 26, 3) := by decide +kernel
theorem dL_law_208 : decode cL_law 208 = .ok (.if_icmp .eq 219, 3) := by decide +kernel
theorem dL_law_211 : decode cL_law 211 = .ok (.iconst 0, 1) := by decide +kernel
theorem dL_law_212 : decode cL_law 212 = .ok (.ireturn, 1) := by decide +kernel
theorem dL_law_213 : decode cL_law 213 = .ok (.aload_n 1, 1) := by decide +kernel
theorem dL_law_214 : decode cL_law 214 = .ok (.aload_n 0, 1) := by decide +kernel
theorem dL_law_215 : decode cL_law 215 = .ok (.iload_n 3, 1) := by decide +kernel
theorem dL_law_216 : decode cL_law 216 = .ok (.iconst 1, 1) := by decide +kernel
theorem dL_law_217 : decode cL_law 217 = .ok (.iadd, 1) := by decide +kernel
theorem dL_law_218 : decode cL_law 218 = .ok (.iaload, 1) := by decide +kernel
theorem dL_law_219 : decode cL_law 219 = .ok (.invokevirtual 27, 3) := by decide +kernel
theorem dL_law_222 : decode cL_law 222 = .ok (.aload_n 2, 1) := by decide +kernel
theorem dL_law_223 : decode cL_law 223 = .ok (.aload_n 0, 1) := by decide +kernel
theorem dL_law_224 : decode cL_law 224 = .ok (.iload_n 3, 1) := by decide +kernel
theorem dL_law_225 : decode cL_law 225 = .ok (.iconst 1, 1) := by decide +kernel
theorem dL_law_226 : decode cL_law 226 = .ok (.iadd, 1) := by decide +kernel
theorem dL_law_227 : decode cL_law 227 = .ok (.iaload, 1) := by decide +kernel
theorem dL_law_228 : decode cL_law 228 = .ok (.invokevirtual 30, 3) := by decide +kernel
theorem dL_law_231 : decode cL_law 231 = .ok (.if_icmp .eq 196, 3) := by decide +kernel
theorem dL_law_234 : decode cL_law 234 = .ok (.iconst 0, 1) := by decide +kernel
theorem dL_law_235 : decode cL_law 235 = .ok (.ireturn, 1) := by decide +kernel
theorem dL_law_236 : decode cL_law 236 = .ok (.aload_n 1, 1) := by decide +kernel
theorem dL_law_237 : decode cL_law 237 = .ok (.invokevirtual 31, 3) := by decide +kernel
theorem dL_law_240 : decode cL_law 240 = .ok (.aload_n 2, 1) := by decide +kernel
theorem dL_law_241 : decode cL_law 241 = .ok (.invokevirtual 35, 3) := by decide +kernel
theorem dL_law_244 : decode cL_law 244 = .ok (.if_icmp .eq 183, 3) := by decide +kernel
theorem dL_law_247 : decode cL_law 247 = .ok (.iconst 0, 1) := by decide +kernel
theorem dL_law_248 : decode cL_law 248 = .ok (.ireturn, 1) := by decide +kernel
theorem dL_law_249 : decode cL_law 249 = .ok (.aload_n 1, 1) := by decide +kernel
theorem dL_law_250 : decode cL_law 250 = .ok (.invokevirtual 36, 3) := by decide +kernel
theorem dL_law_253 : decode cL_law 253 = .ok (.aload_n 2, 1) := by decide +kernel
theorem dL_law_254 : decode cL_law 254 = .ok (.invokevirtual 39, 3) := by decide +kernel
theorem dL_law_257 : decode cL_law 257 = .ok (.if_icmp .eq 170, 3) := by decide +kernel
theorem dL_law_260 : decode cL_law 260 = .ok (.iconst 0, 1) := by decide +kernel
theorem dL_law_261 : decode cL_law 261 = .ok (.ireturn, 1) := by decide +kernel
theorem dL_law_262 : decode cL_law 262 = .ok (.aload_n 1, 1) := by decide +kernel
theorem dL_law_263 : decode cL_law 263 = .ok (.invokevirtual 40, 3) := by decide +kernel
theorem dL_law_266 : decode cL_law 266 = .ok (.aload_n 2, 1) := by decide +kernel
theorem dL_law_267 : decode cL_law 267 = .ok (.invokevirtual 43, 3) := by decide +kernel
theorem dL_law_270 : decode cL_law 270 = .ok (.if_icmp .eq 157, 3) := by decide +kernel
theorem dL_law_273 : decode cL_law 273 = .ok (.iconst 0, 1) := by decide +kernel
theorem dL_law_274 : decode cL_law 274 = .ok (.ireturn, 1) := by decide +kernel
theorem dL_law_275 : decode cL_law 275 = .ok (.aload_n 1, 1) := by decide +kernel
theorem dL_law_276 : decode cL_law 276 = .ok (.invokevirtual 44, 3) := by decide +kernel
theorem dL_law_279 : decode cL_law 279 = .ok (.aload_n 2, 1) := by decide +kernel
theorem dL_law_280 : decode cL_law 280 = .ok (.invokevirtual 47, 3) := by decide +kernel
theorem dL_law_283 : decode cL_law 283 = .ok (.goto 144, 3) := by decide +kernel
theorem dL_law_286 : decode cL_law 286 = .ok (.aload_n 1, 1) := by decide +kernel
theorem dL_law_287 : decode cL_law 287 = .ok (.aload_n 0, 1) := by decide +kernel
theorem dL_law_288 : decode cL_law 288 = .ok (.iload_n 3, 1) := by decide +kernel
theorem dL_law_289 : decode cL_law 289 = .ok (.iconst 1, 1) := by decide +kernel
theorem dL_law_290 : decode cL_law 290 = .ok (.iadd, 1) := by decide +kernel
theorem dL_law_291 : decode cL_law 291 = .ok (.iaload, 1) := by decide +kernel
theorem dL_law_292 : decode cL_law 292 = .ok (.aload_n 0, 1) := by decide +kernel
theorem dL_law_293 : decode cL_law 293 = .ok (.iload_n 3, 1) := by decide +kernel
theorem dL_law_294 : decode cL_law 294 = .ok (.iconst 2, 1) := by decide +kernel
theorem dL_law_295 : decode cL_law 295 = .ok (.iadd, 1) := by decide +kernel
theorem dL_law_296 : decode cL_law 296 = .ok (.iaload, 1) := by decide +kernel
theorem dL_law_297 : decode cL_law 297 = .ok (.invokevirtual 48, 3) := by decide +kernel
theorem dL_law_300 : decode cL_law 300 = .ok (.aload_n 2, 1) := by decide +kernel
theorem dL_law_301 : decode cL_law 301 = .ok (.aload_n 0, 1) := by decide +kernel
theorem dL_law_302 : decode cL_law 302 = .ok (.iload_n 3, 1) := by decide +kernel
theorem dL_law_303 : decode cL_law 303 = .ok (.iconst 1, 1) := by decide +kernel
theorem dL_law_304 : decode cL_law 304 = .ok (.iadd, 1) := by decide +kernel
theorem dL_law_305 : decode cL_law 305 = .ok (.iaload, 1) := by decide +kernel
theorem dL_law_306 : decode cL_law 306 = .ok (.aload_n 0, 1) := by decide +kernel
theorem dL_law_307 : decode cL_law 307 = .ok (.iload_n 3, 1) := by decide +kernel
theorem dL_law_308 : decode cL_law 308 = .ok (.iconst 2, 1) := by decide +kernel
theorem dL_law_309 : decode cL_law 309 = .ok (.iadd, 1) := by decide +kernel
theorem dL_law_310 : decode cL_law 310 = .ok (.iaload, 1) := by decide +kernel
theorem dL_law_311 : decode cL_law 311 = .ok (.invokevirtual 52, 3) := by decide +kernel
theorem dL_law_314 : decode cL_law 314 = .ok (.if_icmp .eq 113, 3) := by decide +kernel
theorem dL_law_317 : decode cL_law 317 = .ok (.iconst 0, 1) := by decide +kernel
theorem dL_law_318 : decode cL_law 318 = .ok (.ireturn, 1) := by decide +kernel
theorem dL_law_319 : decode cL_law 319 = .ok (.aload_n 1, 1) := by decide +kernel
theorem dL_law_320 : decode cL_law 320 = .ok (.aload_n 0, 1) := by decide +kernel
theorem dL_law_321 : decode cL_law 321 = .ok (.iload_n 3, 1) := by decide +kernel
theorem dL_law_322 : decode cL_law 322 = .ok (.iconst 1, 1) := by decide +kernel
theorem dL_law_323 : decode cL_law 323 = .ok (.iadd, 1) := by decide +kernel
theorem dL_law_324 : decode cL_law 324 = .ok (.iaload, 1) := by decide +kernel
theorem dL_law_325 : decode cL_law 325 = .ok (.aload_n 0, 1) := by decide +kernel
theorem dL_law_326 : decode cL_law 326 = .ok (.iload_n 3, 1) := by decide +kernel
theorem dL_law_327 : decode cL_law 327 = .ok (.iconst 2, 1) := by decide +kernel
theorem dL_law_328 : decode cL_law 328 = .ok (.iadd, 1) := by decide +kernel
theorem dL_law_329 : decode cL_law 329 = .ok (.iaload, 1) := by decide +kernel
theorem dL_law_330 : decode cL_law 330 = .ok (.invokevirtual 53, 3) := by decide +kernel
theorem dL_law_333 : decode cL_law 333 = .ok (.aload_n 2, 1) := by decide +kernel
theorem dL_law_334 : decode cL_law 334 = .ok (.aload_n 0, 1) := by decide +kernel
theorem dL_law_335 : decode cL_law 335 = .ok (.iload_n 3, 1) := by decide +kernel
theorem dL_law_336 : decode cL_law 336 = .ok (.iconst 1, 1) := by decide +kernel
theorem dL_law_337 : decode cL_law 337 = .ok (.iadd, 1) := by decide +kernel
theorem dL_law_338 : decode cL_law 338 = .ok (.iaload, 1) := by decide +kernel
theorem dL_law_339 : decode cL_law 339 = .ok (.aload_n 0, 1) := by decide +kernel
theorem dL_law_340 : decode cL_law 340 = .ok (.iload_n 3, 1) := by decide +kernel
theorem dL_law_341 : decode cL_law 341 = .ok (.iconst 2, 1) := by decide +kernel
theorem dL_law_342 : decode cL_law 342 = .ok (.iadd, 1) := by decide +kernel
theorem dL_law_343 : decode cL_law 343 = .ok (.iaload, 1) := by decide +kernel
theorem dL_law_344 : decode cL_law 344 = .ok (.invokevirtual 57, 3) := by decide +kernel
theorem dL_law_347 : decode cL_law 347 = .ok (.if_icmp .eq 80, 3) := by decide +kernel
theorem dL_law_350 : decode cL_law 350 = .ok (.iconst 0, 1) := by decide +kernel
theorem dL_law_351 : decode cL_law 351 = .ok (.ireturn, 1) := by decide +kernel
theorem dL_law_352 : decode cL_law 352 = .ok (.aload_n 1, 1) := by decide +kernel
theorem dL_law_353 : decode cL_law 353 = .ok (.aload_n 0, 1) := by decide +kernel
theorem dL_law_354 : decode cL_law 354 = .ok (.iload_n 3, 1) := by decide +kernel
theorem dL_law_355 : decode cL_law 355 = .ok (.iconst 1, 1) := by decide +kernel
theorem dL_law_356 : decode cL_law 356 = .ok (.iadd, 1) := by decide +kernel
theorem dL_law_357 : decode cL_law 357 = .ok (.iaload, 1) := by decide +kernel
theorem dL_law_358 : decode cL_law 358 = .ok (.invokevirtual 58, 3) := by decide +kernel
theorem dL_law_361 : decode cL_law 361 = .ok (.aload_n 2, 1) := by decide +kernel
theorem dL_law_362 : decode cL_law 362 = .ok (.aload_n 0, 1) := by decide +kernel
theorem dL_law_363 : decode cL_law 363 = .ok (.iload_n 3, 1) := by decide +kernel
theorem dL_law_364 : decode cL_law 364 = .ok (.iconst 1, 1) := by decide +kernel
theorem dL_law_365 : decode cL_law 365 = .ok (.iadd, 1) := by decide +kernel
theorem dL_law_366 : decode cL_law 366 = .ok (.iaload, 1) := by decide +kernel
theorem dL_law_367 : decode cL_law 367 = .ok (.invokevirtual 61, 3) := by decide +kernel
theorem dL_law_370 : decode cL_law 370 = .ok (.if_icmp .eq 57, 3) := by decide +kernel
theorem dL_law_373 : decode cL_law 373 = .ok (.iconst 0, 1) := by decide +kernel
theorem dL_law_374 : decode cL_law 374 = .ok (.ireturn, 1) := by decide +kernel
theorem dL_law_375 : decode cL_law 375 = .ok (.aload_n 1, 1) := by decide +kernel
theorem dL_law_376 : decode cL_law 376 = .ok (.invokevirtual 62, 3) := by decide +kernel
theorem dL_law_379 : decode cL_law 379 = .ok (.aload_n 2, 1) := by decide +kernel
theorem dL_law_380 : decode cL_law 380 = .ok (.invokevirtual 65, 3) := by decide +kernel
theorem dL_law_383 : decode cL_law 383 = .ok (.if_icmp .eq 44, 3) := by decide +kernel
theorem dL_law_386 : decode cL_law 386 = .ok (.iconst 0, 1) := by decide +kernel
theorem dL_law_387 : decode cL_law 387 = .ok (.ireturn, 1) := by decide +kernel
theorem dL_law_388 : decode cL_law 388 = .ok (.aload_n 1, 1) := by decide +kernel
theorem dL_law_389 : decode cL_law 389 = .ok (.invokevirtual 66, 3) := by decide +kernel
theorem dL_law_392 : decode cL_law 392 = .ok (.aload_n 2, 1) := by decide +kernel
theorem dL_law_393 : decode cL_law 393 = .ok (.invokevirtual 69, 3) := by decide +kernel
theorem dL_law_396 : decode cL_law 396 = .ok (.if_icmp .eq 31, 3) := by decide +kernel
theorem dL_law_399 : decode cL_law 399 = .ok (.iconst 0, 1) := by decide +kernel
theorem dL_law_400 : decode cL_law 400 = .ok (.ireturn, 1) := by decide +kernel
theorem dL_law_401 : decode cL_law 401 = .ok (.aload_n 1, 1) := by decide +kernel
theorem dL_law_402 : decode cL_law 402 = .ok (.invokevirtual 70, 3) := by decide +kernel
theorem dL_law_405 : decode cL_law 405 = .ok (.aload_n 2, 1) := by decide +kernel
theorem dL_law_406 : decode cL_law 406 = .ok (.invokevirtual 73, 3) := by decide +kernel
theorem dL_law_409 : decode cL_law 409 = .ok (.if_icmp .eq 18, 3) := by decide +kernel
theorem dL_law_412 : decode cL_law 412 = .ok (.iconst 0, 1) := by decide +kernel
theorem dL_law_413 : decode cL_law 413 = .ok (.ireturn, 1) := by decide +kernel
theorem dL_law_414 : decode cL_law 414 = .ok (.aload_n 1, 1) := by decide +kernel
theorem dL_law_415 : decode cL_law 415 = .ok (.invokevirtual 74, 3) := by decide +kernel
theorem dL_law_418 : decode cL_law 418 = .ok (.aload_n 2, 1) := by decide +kernel
theorem dL_law_419 : decode cL_law 419 = .ok (.invokevirtual 77, 3) := by decide +kernel
theorem dL_law_422 : decode cL_law 422 = .ok (.if_icmp .eq 5, 3) := by decide +kernel
theorem dL_law_425 : decode cL_law 425 = .ok (.iconst 0, 1) := by decide +kernel
theorem dL_law_426 : decode cL_law 426 = .ok (.ireturn, 1) := by decide +kernel
theorem dL_law_427 : decode cL_law 427 = .ok (.iinc 3 4, 3) := by decide +kernel
theorem dL_law_430 : decode cL_law 430 = .ok (.goto (-412), 3) := by decide +kernel
theorem dL_law_433 : decode cL_law 433 = .ok (.iconst 1, 1) := by decide +kernel
theorem dL_law_434 : decode cL_law 434 = .ok (.ireturn, 1) := by decide +kernel
end
section
set_option maxRecDepth 100000
/-! java/lang/Object -/
def RJ0 : String := "java/lang/Object"
abbrev cJ0_init : ByteArray := object_method_1_code
def yJ0_init : MethodName := ⟨RJ0, "<init>", "()V"⟩
theorem dJ0_init_0 : decode cJ0_init 0 = .ok (.return_, 1) := by decide +kernel
theorem q28 : (Jvm.Cond.instanceMethod ({ cls := "java/lang/Object", name := "<init>", desc := "()V" } : Jvm.MethodName)) ∈ lw_all := lw_g (lw_at lw_m1 9 rfl) rfl
theorem q29 : (Jvm.Cond.code ({ cls := "java/lang/Object", name := "<init>", desc := "()V" } : Jvm.MethodName) object_method_1_code (1 : Nat) (Option.none : Option Jvm.ClassFile.FieldType)) ∈ lw_all := lw_g (lw_at lw_m1 10 rfl) rfl
theorem q79 : (Jvm.Cond.arrayClass Jvm.ClassFile.FieldType.int) ∈ lw_all := lw_g (lw_at lw_m1 60 rfl) rfl
theorem q215 : (Jvm.Cond.arrayClass Jvm.ClassFile.FieldType.boolean) ∈ lw_all := lw_g (lw_at lw_m1 196 rfl) rfl
theorem q19 : (Jvm.Cond.initialized "PathAlgebraLaw") ∈ lw_all := lw_g (lw_at lw_m1 0 rfl) rfl
theorem q22 : (Jvm.Cond.classLink "PathAlgebraLaw" (7 : Nat) "PathAlgebra") ∈ lw_all := lw_g (lw_at lw_m1 3 rfl) rfl
theorem q24 : (Jvm.Cond.methodLink "PathAlgebraLaw" (9 : Nat) ({ cls := "PathAlgebra", name := "<init>", desc := "()V" } : Jvm.MethodName)) ∈ lw_all := lw_g (lw_at lw_m1 5 rfl) rfl
theorem q80 : (Jvm.Cond.methodLink "PathAlgebraLaw" (13 : Nat) ({ cls := "PathAlgebra", name := "edge", desc := "(IIZ)I" } : Jvm.MethodName)) ∈ lw_all := lw_g (lw_at lw_m1 61 rfl) rfl
theorem q87 : (Jvm.Cond.methodLink "PathAlgebraLaw" (18 : Nat) ({ cls := "PathAlgebra", name := "label", desc := "(I)I" } : Jvm.MethodName)) ∈ lw_all := lw_g (lw_at lw_m1 68 rfl) rfl
theorem q103 : (Jvm.Cond.methodLink "PathAlgebraLaw" (23 : Nat) ({ cls := "PathAlgebra", name := "back", desc := "(I)I" } : Jvm.MethodName)) ∈ lw_all := lw_g (lw_at lw_m1 84 rfl) rfl
theorem q107 : (Jvm.Cond.methodLink "PathAlgebraLaw" (27 : Nat) ({ cls := "PathAlgebra", name := "at", desc := "(I)I" } : Jvm.MethodName)) ∈ lw_all := lw_g (lw_at lw_m1 88 rfl) rfl
theorem q111 : (Jvm.Cond.methodLink "PathAlgebraLaw" (31 : Nat) ({ cls := "PathAlgebra", name := "then", desc := "()I" } : Jvm.MethodName)) ∈ lw_all := lw_g (lw_at lw_m1 92 rfl) rfl
theorem q115 : (Jvm.Cond.methodLink "PathAlgebraLaw" (36 : Nat) ({ cls := "PathAlgebra", name := "or", desc := "()I" } : Jvm.MethodName)) ∈ lw_all := lw_g (lw_at lw_m1 96 rfl) rfl
theorem q119 : (Jvm.Cond.methodLink "PathAlgebraLaw" (40 : Nat) ({ cls := "PathAlgebra", name := "star", desc := "()I" } : Jvm.MethodName)) ∈ lw_all := lw_g (lw_at lw_m1 100 rfl) rfl
theorem q123 : (Jvm.Cond.methodLink "PathAlgebraLaw" (44 : Nat) ({ cls := "PathAlgebra", name := "clear", desc := "()V" } : Jvm.MethodName)) ∈ lw_all := lw_g (lw_at lw_m1 104 rfl) rfl
theorem q127 : (Jvm.Cond.methodLink "PathAlgebraLaw" (48 : Nat) ({ cls := "PathAlgebra", name := "leads", desc := "(II)Z" } : Jvm.MethodName)) ∈ lw_all := lw_g (lw_at lw_m1 108 rfl) rfl
theorem q162 : (Jvm.Cond.methodLink "PathAlgebraLaw" (53 : Nat) ({ cls := "PathAlgebra", name := "shortest", desc := "(II)I" } : Jvm.MethodName)) ∈ lw_all := lw_g (lw_at lw_m1 143 rfl) rfl
theorem q166 : (Jvm.Cond.methodLink "PathAlgebraLaw" (58 : Nat) ({ cls := "PathAlgebra", name := "reach", desc := "(I)I" } : Jvm.MethodName)) ∈ lw_all := lw_g (lw_at lw_m1 147 rfl) rfl
theorem q174 : (Jvm.Cond.methodLink "PathAlgebraLaw" (62 : Nat) ({ cls := "PathAlgebra", name := "pairs", desc := "()I" } : Jvm.MethodName)) ∈ lw_all := lw_g (lw_at lw_m1 155 rfl) rfl
theorem q178 : (Jvm.Cond.methodLink "PathAlgebraLaw" (66 : Nat) ({ cls := "PathAlgebra", name := "loops", desc := "()I" } : Jvm.MethodName)) ∈ lw_all := lw_g (lw_at lw_m1 159 rfl) rfl
theorem q182 : (Jvm.Cond.methodLink "PathAlgebraLaw" (70 : Nat) ({ cls := "PathAlgebra", name := "widest", desc := "()I" } : Jvm.MethodName)) ∈ lw_all := lw_g (lw_at lw_m1 163 rfl) rfl
theorem q186 : (Jvm.Cond.methodLink "PathAlgebraLaw" (74 : Nat) ({ cls := "PathAlgebra", name := "steps", desc := "()I" } : Jvm.MethodName)) ∈ lw_all := lw_g (lw_at lw_m1 167 rfl) rfl
theorem q190 : (Jvm.Cond.classLink "PathAlgebraLaw" (10 : Nat) "PathAlgebraModel") ∈ lw_all := lw_g (lw_at lw_m1 171 rfl) rfl
theorem q192 : (Jvm.Cond.methodLink "PathAlgebraLaw" (12 : Nat) ({ cls := "PathAlgebraModel", name := "<init>", desc := "()V" } : Jvm.MethodName)) ∈ lw_all := lw_g (lw_at lw_m1 173 rfl) rfl
theorem q216 : (Jvm.Cond.methodLink "PathAlgebraLaw" (17 : Nat) ({ cls := "PathAlgebraModel", name := "edge", desc := "(IIZ)I" } : Jvm.MethodName)) ∈ lw_all := lw_g (lw_at lw_m1 197 rfl) rfl
theorem q220 : (Jvm.Cond.methodLink "PathAlgebraLaw" (22 : Nat) ({ cls := "PathAlgebraModel", name := "label", desc := "(I)I" } : Jvm.MethodName)) ∈ lw_all := lw_g (lw_at lw_m1 201 rfl) rfl
theorem q228 : (Jvm.Cond.methodLink "PathAlgebraLaw" (26 : Nat) ({ cls := "PathAlgebraModel", name := "back", desc := "(I)I" } : Jvm.MethodName)) ∈ lw_all := lw_g (lw_at lw_m1 209 rfl) rfl
theorem q232 : (Jvm.Cond.methodLink "PathAlgebraLaw" (30 : Nat) ({ cls := "PathAlgebraModel", name := "at", desc := "(I)I" } : Jvm.MethodName)) ∈ lw_all := lw_g (lw_at lw_m1 213 rfl) rfl
theorem q236 : (Jvm.Cond.methodLink "PathAlgebraLaw" (35 : Nat) ({ cls := "PathAlgebraModel", name := "then", desc := "()I" } : Jvm.MethodName)) ∈ lw_all := lw_g (lw_at lw_m1 217 rfl) rfl
theorem q240 : (Jvm.Cond.methodLink "PathAlgebraLaw" (39 : Nat) ({ cls := "PathAlgebraModel", name := "or", desc := "()I" } : Jvm.MethodName)) ∈ lw_all := lw_g (lw_at lw_m1 221 rfl) rfl
theorem q244 : (Jvm.Cond.methodLink "PathAlgebraLaw" (43 : Nat) ({ cls := "PathAlgebraModel", name := "star", desc := "()I" } : Jvm.MethodName)) ∈ lw_all := lw_g (lw_at lw_m1 225 rfl) rfl
theorem q248 : (Jvm.Cond.methodLink "PathAlgebraLaw" (47 : Nat) ({ cls := "PathAlgebraModel", name := "clear", desc := "()V" } : Jvm.MethodName)) ∈ lw_all := lw_g (lw_at lw_m1 229 rfl) rfl
theorem q252 : (Jvm.Cond.methodLink "PathAlgebraLaw" (52 : Nat) ({ cls := "PathAlgebraModel", name := "leads", desc := "(II)Z" } : Jvm.MethodName)) ∈ lw_all := lw_g (lw_at lw_m1 233 rfl) rfl
theorem q285 : (Jvm.Cond.methodLink "PathAlgebraLaw" (57 : Nat) ({ cls := "PathAlgebraModel", name := "shortest", desc := "(II)I" } : Jvm.MethodName)) ∈ lw_all := lw_g (lw_at lw_m2 26 rfl) rfl
theorem q289 : (Jvm.Cond.methodLink "PathAlgebraLaw" (61 : Nat) ({ cls := "PathAlgebraModel", name := "reach", desc := "(I)I" } : Jvm.MethodName)) ∈ lw_all := lw_g (lw_at lw_m2 30 rfl) rfl
theorem q293 : (Jvm.Cond.methodLink "PathAlgebraLaw" (65 : Nat) ({ cls := "PathAlgebraModel", name := "pairs", desc := "()I" } : Jvm.MethodName)) ∈ lw_all := lw_g (lw_at lw_m2 34 rfl) rfl
theorem q297 : (Jvm.Cond.methodLink "PathAlgebraLaw" (69 : Nat) ({ cls := "PathAlgebraModel", name := "loops", desc := "()I" } : Jvm.MethodName)) ∈ lw_all := lw_g (lw_at lw_m2 38 rfl) rfl
theorem q301 : (Jvm.Cond.methodLink "PathAlgebraLaw" (73 : Nat) ({ cls := "PathAlgebraModel", name := "widest", desc := "()I" } : Jvm.MethodName)) ∈ lw_all := lw_g (lw_at lw_m2 42 rfl) rfl
theorem q305 : (Jvm.Cond.methodLink "PathAlgebraLaw" (77 : Nat) ({ cls := "PathAlgebraModel", name := "steps", desc := "()I" } : Jvm.MethodName)) ∈ lw_all := lw_g (lw_at lw_m2 46 rfl) rfl
theorem q20 : (Jvm.Cond.initialized "PathAlgebra") ∈ lw_all := lw_g (lw_at lw_m1 1 rfl) rfl
theorem q23 : (Jvm.Cond.instantiable "PathAlgebra" (16 : Nat)) ∈ lw_all := lw_g (lw_at lw_m1 4 rfl) rfl
theorem q25 : (Jvm.Cond.instanceMethod ({ cls := "PathAlgebra", name := "<init>", desc := "()V" } : Jvm.MethodName)) ∈ lw_all := lw_g (lw_at lw_m1 6 rfl) rfl
theorem q26 : (Jvm.Cond.code ({ cls := "PathAlgebra", name := "<init>", desc := "()V" } : Jvm.MethodName) prog_1_method_1_code (1 : Nat) (Option.none : Option Jvm.ClassFile.FieldType)) ∈ lw_all := lw_g (lw_at lw_m1 7 rfl) rfl
theorem q27 : (Jvm.Cond.methodLink "PathAlgebra" (1 : Nat) ({ cls := "java/lang/Object", name := "<init>", desc := "()V" } : Jvm.MethodName)) ∈ lw_all := lw_g (lw_at lw_m1 8 rfl) rfl
theorem q30 : (Jvm.Cond.fieldLink "PathAlgebra" (7 : Nat) "PathAlgebra" "forward" "[I") ∈ lw_all := lw_g (lw_at lw_m1 11 rfl) rfl
theorem q31 : (Jvm.Cond.fieldLink "PathAlgebra" (13 : Nat) "PathAlgebra" "backward" "[I") ∈ lw_all := lw_g (lw_at lw_m1 12 rfl) rfl
theorem q32 : (Jvm.Cond.fieldLink "PathAlgebra" (40 : Nat) "PathAlgebra" "made" "I") ∈ lw_all := lw_g (lw_at lw_m1 13 rfl) rfl
theorem q33 : (Jvm.Cond.fieldLink "PathAlgebra" (58 : Nat) "PathAlgebra" "states" "I") ∈ lw_all := lw_g (lw_at lw_m1 14 rfl) rfl
theorem q34 : (Jvm.Cond.fieldLink "PathAlgebra" (48 : Nat) "PathAlgebra" "moves" "I") ∈ lw_all := lw_g (lw_at lw_m1 15 rfl) rfl
theorem q35 : (Jvm.Cond.fieldLink "PathAlgebra" (16 : Nat) "PathAlgebra" "kind" "[I") ∈ lw_all := lw_g (lw_at lw_m1 16 rfl) rfl
theorem q36 : (Jvm.Cond.fieldLink "PathAlgebra" (19 : Nat) "PathAlgebra" "from" "[I") ∈ lw_all := lw_g (lw_at lw_m1 17 rfl) rfl
theorem q37 : (Jvm.Cond.fieldLink "PathAlgebra" (22 : Nat) "PathAlgebra" "to" "[I") ∈ lw_all := lw_g (lw_at lw_m1 18 rfl) rfl
theorem q38 : (Jvm.Cond.fieldLink "PathAlgebra" (51 : Nat) "PathAlgebra" "height" "I") ∈ lw_all := lw_g (lw_at lw_m1 19 rfl) rfl
theorem q39 : (Jvm.Cond.fieldLink "PathAlgebra" (25 : Nat) "PathAlgebra" "start" "[I") ∈ lw_all := lw_g (lw_at lw_m1 20 rfl) rfl
theorem q40 : (Jvm.Cond.fieldLink "PathAlgebra" (28 : Nat) "PathAlgebra" "end" "[I") ∈ lw_all := lw_g (lw_at lw_m1 21 rfl) rfl
theorem q41 : (Jvm.Cond.fieldLink "PathAlgebra" (31 : Nat) "PathAlgebra" "length" "[I") ∈ lw_all := lw_g (lw_at lw_m1 22 rfl) rfl
theorem q42 : (Jvm.Cond.fieldLink "PathAlgebra" (68 : Nat) "PathAlgebra" "here" "I") ∈ lw_all := lw_g (lw_at lw_m1 23 rfl) rfl
theorem q43 : (Jvm.Cond.fieldLink "PathAlgebra" (71 : Nat) "PathAlgebra" "next" "I") ∈ lw_all := lw_g (lw_at lw_m1 24 rfl) rfl
theorem q44 : (Jvm.Cond.fieldLink "PathAlgebra" (34 : Nat) "PathAlgebra" "level" "[I") ∈ lw_all := lw_g (lw_at lw_m1 25 rfl) rfl
theorem q45 : (Jvm.Cond.fieldLink "PathAlgebra" (37 : Nat) "PathAlgebra" "coming" "[I") ∈ lw_all := lw_g (lw_at lw_m1 26 rfl) rfl
theorem q46 : (Jvm.Cond.laysFinal "PathAlgebra" "PathAlgebra" "forward" "[I") ∈ lw_all := lw_g (lw_at lw_m1 27 rfl) rfl
theorem q47 : (Jvm.Cond.soleField "PathAlgebra" "forward") ∈ lw_all := lw_g (lw_at lw_m1 28 rfl) rfl
theorem q48 : (Jvm.Cond.laysFinal "PathAlgebra" "PathAlgebra" "backward" "[I") ∈ lw_all := lw_g (lw_at lw_m1 29 rfl) rfl
theorem q49 : (Jvm.Cond.soleField "PathAlgebra" "backward") ∈ lw_all := lw_g (lw_at lw_m1 30 rfl) rfl
theorem q50 : (Jvm.Cond.lays "PathAlgebra" "PathAlgebra" "made" "I") ∈ lw_all := lw_g (lw_at lw_m1 31 rfl) rfl
theorem q51 : (Jvm.Cond.soleField "PathAlgebra" "made") ∈ lw_all := lw_g (lw_at lw_m1 32 rfl) rfl
theorem q52 : (Jvm.Cond.lays "PathAlgebra" "PathAlgebra" "states" "I") ∈ lw_all := lw_g (lw_at lw_m1 33 rfl) rfl
theorem q53 : (Jvm.Cond.soleField "PathAlgebra" "states") ∈ lw_all := lw_g (lw_at lw_m1 34 rfl) rfl
theorem q54 : (Jvm.Cond.lays "PathAlgebra" "PathAlgebra" "moves" "I") ∈ lw_all := lw_g (lw_at lw_m1 35 rfl) rfl
theorem q55 : (Jvm.Cond.soleField "PathAlgebra" "moves") ∈ lw_all := lw_g (lw_at lw_m1 36 rfl) rfl
theorem q56 : (Jvm.Cond.laysFinal "PathAlgebra" "PathAlgebra" "kind" "[I") ∈ lw_all := lw_g (lw_at lw_m1 37 rfl) rfl
theorem q57 : (Jvm.Cond.soleField "PathAlgebra" "kind") ∈ lw_all := lw_g (lw_at lw_m1 38 rfl) rfl
theorem q58 : (Jvm.Cond.laysFinal "PathAlgebra" "PathAlgebra" "from" "[I") ∈ lw_all := lw_g (lw_at lw_m1 39 rfl) rfl
theorem q59 : (Jvm.Cond.soleField "PathAlgebra" "from") ∈ lw_all := lw_g (lw_at lw_m1 40 rfl) rfl
theorem q60 : (Jvm.Cond.laysFinal "PathAlgebra" "PathAlgebra" "to" "[I") ∈ lw_all := lw_g (lw_at lw_m1 41 rfl) rfl
theorem q61 : (Jvm.Cond.soleField "PathAlgebra" "to") ∈ lw_all := lw_g (lw_at lw_m1 42 rfl) rfl
theorem q62 : (Jvm.Cond.lays "PathAlgebra" "PathAlgebra" "height" "I") ∈ lw_all := lw_g (lw_at lw_m1 43 rfl) rfl
theorem q63 : (Jvm.Cond.soleField "PathAlgebra" "height") ∈ lw_all := lw_g (lw_at lw_m1 44 rfl) rfl
theorem q64 : (Jvm.Cond.laysFinal "PathAlgebra" "PathAlgebra" "start" "[I") ∈ lw_all := lw_g (lw_at lw_m1 45 rfl) rfl
theorem q65 : (Jvm.Cond.soleField "PathAlgebra" "start") ∈ lw_all := lw_g (lw_at lw_m1 46 rfl) rfl
theorem q66 : (Jvm.Cond.laysFinal "PathAlgebra" "PathAlgebra" "end" "[I") ∈ lw_all := lw_g (lw_at lw_m1 47 rfl) rfl
theorem q67 : (Jvm.Cond.soleField "PathAlgebra" "end") ∈ lw_all := lw_g (lw_at lw_m1 48 rfl) rfl
theorem q68 : (Jvm.Cond.laysFinal "PathAlgebra" "PathAlgebra" "length" "[I") ∈ lw_all := lw_g (lw_at lw_m1 49 rfl) rfl
theorem q69 : (Jvm.Cond.soleField "PathAlgebra" "length") ∈ lw_all := lw_g (lw_at lw_m1 50 rfl) rfl
theorem q70 : (Jvm.Cond.lays "PathAlgebra" "PathAlgebra" "here" "I") ∈ lw_all := lw_g (lw_at lw_m1 51 rfl) rfl
theorem q71 : (Jvm.Cond.soleField "PathAlgebra" "here") ∈ lw_all := lw_g (lw_at lw_m1 52 rfl) rfl
theorem q72 : (Jvm.Cond.lays "PathAlgebra" "PathAlgebra" "next" "I") ∈ lw_all := lw_g (lw_at lw_m1 53 rfl) rfl
theorem q73 : (Jvm.Cond.soleField "PathAlgebra" "next") ∈ lw_all := lw_g (lw_at lw_m1 54 rfl) rfl
theorem q74 : (Jvm.Cond.laysFinal "PathAlgebra" "PathAlgebra" "level" "[I") ∈ lw_all := lw_g (lw_at lw_m1 55 rfl) rfl
theorem q75 : (Jvm.Cond.soleField "PathAlgebra" "level") ∈ lw_all := lw_g (lw_at lw_m1 56 rfl) rfl
theorem q76 : (Jvm.Cond.laysFinal "PathAlgebra" "PathAlgebra" "coming" "[I") ∈ lw_all := lw_g (lw_at lw_m1 57 rfl) rfl
theorem q77 : (Jvm.Cond.soleField "PathAlgebra" "coming") ∈ lw_all := lw_g (lw_at lw_m1 58 rfl) rfl
theorem q78 : (Jvm.Cond.superclass "PathAlgebra" "java/lang/Object") ∈ lw_all := lw_g (lw_at lw_m1 59 rfl) rfl
theorem q81 : (Jvm.Cond.instanceMethod ({ cls := "PathAlgebra", name := "edge", desc := "(IIZ)I" } : Jvm.MethodName)) ∈ lw_all := lw_g (lw_at lw_m1 62 rfl) rfl
theorem q82 : (Jvm.Cond.selects "PathAlgebra" ({ cls := "PathAlgebra", name := "edge", desc := "(IIZ)I" } : Jvm.MethodName) ({ cls := "PathAlgebra", name := "edge", desc := "(IIZ)I" } : Jvm.MethodName)) ∈ lw_all := lw_g (lw_at lw_m1 63 rfl) rfl
theorem q83 : (Jvm.Cond.code ({ cls := "PathAlgebra", name := "edge", desc := "(IIZ)I" } : Jvm.MethodName) prog_1_method_4_code (7 : Nat) (Option.some Jvm.ClassFile.FieldType.int)) ∈ lw_all := lw_g (lw_at lw_m1 64 rfl) rfl
theorem q84 : (Jvm.Cond.methodLink "PathAlgebra" (44 : Nat) ({ cls := "PathAlgebra", name := "badLabel", desc := "(I)Z" } : Jvm.MethodName)) ∈ lw_all := lw_g (lw_at lw_m1 65 rfl) rfl
theorem q85 : (Jvm.Cond.static ({ cls := "PathAlgebra", name := "badLabel", desc := "(I)Z" } : Jvm.MethodName)) ∈ lw_all := lw_g (lw_at lw_m1 66 rfl) rfl
theorem q86 : (Jvm.Cond.code ({ cls := "PathAlgebra", name := "badLabel", desc := "(I)Z" } : Jvm.MethodName) prog_1_method_3_code (1 : Nat) (Option.some Jvm.ClassFile.FieldType.boolean)) ∈ lw_all := lw_g (lw_at lw_m1 67 rfl) rfl
theorem q88 : (Jvm.Cond.instanceMethod ({ cls := "PathAlgebra", name := "label", desc := "(I)I" } : Jvm.MethodName)) ∈ lw_all := lw_g (lw_at lw_m1 69 rfl) rfl
theorem q89 : (Jvm.Cond.selects "PathAlgebra" ({ cls := "PathAlgebra", name := "label", desc := "(I)I" } : Jvm.MethodName) ({ cls := "PathAlgebra", name := "label", desc := "(I)I" } : Jvm.MethodName)) ∈ lw_all := lw_g (lw_at lw_m1 70 rfl) rfl
theorem q90 : (Jvm.Cond.code ({ cls := "PathAlgebra", name := "label", desc := "(I)I" } : Jvm.MethodName) prog_1_method_8_code (2 : Nat) (Option.some Jvm.ClassFile.FieldType.int)) ∈ lw_all := lw_g (lw_at lw_m1 71 rfl) rfl
theorem q91 : (Jvm.Cond.methodLink "PathAlgebra" (65 : Nat) ({ cls := "PathAlgebra", name := "pushMove", desc := "(I)I" } : Jvm.MethodName)) ∈ lw_all := lw_g (lw_at lw_m1 72 rfl) rfl
theorem q92 : (Jvm.Cond.privateMethod ({ cls := "PathAlgebra", name := "pushMove", desc := "(I)I" } : Jvm.MethodName)) ∈ lw_tbl := lw_at lw_m1 73 rfl
theorem q93 : (Jvm.Cond.instanceMethod ({ cls := "PathAlgebra", name := "pushMove", desc := "(I)I" } : Jvm.MethodName)) ∈ lw_all := lw_g (lw_at lw_m1 74 rfl) rfl
theorem q94 : (Jvm.Cond.code ({ cls := "PathAlgebra", name := "pushMove", desc := "(I)I" } : Jvm.MethodName) prog_1_method_7_code (3 : Nat) (Option.some Jvm.ClassFile.FieldType.int)) ∈ lw_all := lw_g (lw_at lw_m1 75 rfl) rfl
theorem q95 : (Jvm.Cond.methodLink "PathAlgebra" (54 : Nat) ({ cls := "PathAlgebra", name := "refusal", desc := "(I)I" } : Jvm.MethodName)) ∈ lw_all := lw_g (lw_at lw_m1 76 rfl) rfl
theorem q96 : (Jvm.Cond.privateMethod ({ cls := "PathAlgebra", name := "refusal", desc := "(I)I" } : Jvm.MethodName)) ∈ lw_tbl := lw_at lw_m1 77 rfl
theorem q97 : (Jvm.Cond.instanceMethod ({ cls := "PathAlgebra", name := "refusal", desc := "(I)I" } : Jvm.MethodName)) ∈ lw_all := lw_g (lw_at lw_m1 78 rfl) rfl
theorem q98 : (Jvm.Cond.code ({ cls := "PathAlgebra", name := "refusal", desc := "(I)I" } : Jvm.MethodName) prog_1_method_6_code (2 : Nat) (Option.some Jvm.ClassFile.FieldType.int)) ∈ lw_all := lw_g (lw_at lw_m1 79 rfl) rfl
theorem q99 : (Jvm.Cond.methodLink "PathAlgebra" (61 : Nat) ({ cls := "PathAlgebra", name := "addMove", desc := "(III)V" } : Jvm.MethodName)) ∈ lw_all := lw_g (lw_at lw_m1 80 rfl) rfl
theorem q100 : (Jvm.Cond.privateMethod ({ cls := "PathAlgebra", name := "addMove", desc := "(III)V" } : Jvm.MethodName)) ∈ lw_tbl := lw_at lw_m1 81 rfl
theorem q101 : (Jvm.Cond.instanceMethod ({ cls := "PathAlgebra", name := "addMove", desc := "(III)V" } : Jvm.MethodName)) ∈ lw_all := lw_g (lw_at lw_m1 82 rfl) rfl
theorem q102 : (Jvm.Cond.code ({ cls := "PathAlgebra", name := "addMove", desc := "(III)V" } : Jvm.MethodName) prog_1_method_5_code (4 : Nat) (Option.none : Option Jvm.ClassFile.FieldType)) ∈ lw_all := lw_g (lw_at lw_m1 83 rfl) rfl
theorem q104 : (Jvm.Cond.instanceMethod ({ cls := "PathAlgebra", name := "back", desc := "(I)I" } : Jvm.MethodName)) ∈ lw_all := lw_g (lw_at lw_m1 85 rfl) rfl
theorem q105 : (Jvm.Cond.selects "PathAlgebra" ({ cls := "PathAlgebra", name := "back", desc := "(I)I" } : Jvm.MethodName) ({ cls := "PathAlgebra", name := "back", desc := "(I)I" } : Jvm.MethodName)) ∈ lw_all := lw_g (lw_at lw_m1 86 rfl) rfl
theorem q106 : (Jvm.Cond.code ({ cls := "PathAlgebra", name := "back", desc := "(I)I" } : Jvm.MethodName) prog_1_method_9_code (2 : Nat) (Option.some Jvm.ClassFile.FieldType.int)) ∈ lw_all := lw_g (lw_at lw_m1 87 rfl) rfl
theorem q108 : (Jvm.Cond.instanceMethod ({ cls := "PathAlgebra", name := "at", desc := "(I)I" } : Jvm.MethodName)) ∈ lw_all := lw_g (lw_at lw_m1 89 rfl) rfl
theorem q109 : (Jvm.Cond.selects "PathAlgebra" ({ cls := "PathAlgebra", name := "at", desc := "(I)I" } : Jvm.MethodName) ({ cls := "PathAlgebra", name := "at", desc := "(I)I" } : Jvm.MethodName)) ∈ lw_all := lw_g (lw_at lw_m1 90 rfl) rfl
theorem q110 : (Jvm.Cond.code ({ cls := "PathAlgebra", name := "at", desc := "(I)I" } : Jvm.MethodName) prog_1_method_10_code (2 : Nat) (Option.some Jvm.ClassFile.FieldType.int)) ∈ lw_all := lw_g (lw_at lw_m1 91 rfl) rfl
theorem q112 : (Jvm.Cond.instanceMethod ({ cls := "PathAlgebra", name := "then", desc := "()I" } : Jvm.MethodName)) ∈ lw_all := lw_g (lw_at lw_m1 93 rfl) rfl
theorem q113 : (Jvm.Cond.selects "PathAlgebra" ({ cls := "PathAlgebra", name := "then", desc := "()I" } : Jvm.MethodName) ({ cls := "PathAlgebra", name := "then", desc := "()I" } : Jvm.MethodName)) ∈ lw_all := lw_g (lw_at lw_m1 94 rfl) rfl
theorem q114 : (Jvm.Cond.code ({ cls := "PathAlgebra", name := "then", desc := "()I" } : Jvm.MethodName) prog_1_method_11_code (2 : Nat) (Option.some Jvm.ClassFile.FieldType.int)) ∈ lw_all := lw_g (lw_at lw_m1 95 rfl) rfl
theorem q116 : (Jvm.Cond.instanceMethod ({ cls := "PathAlgebra", name := "or", desc := "()I" } : Jvm.MethodName)) ∈ lw_all := lw_g (lw_at lw_m1 97 rfl) rfl
theorem q117 : (Jvm.Cond.selects "PathAlgebra" ({ cls := "PathAlgebra", name := "or", desc := "()I" } : Jvm.MethodName) ({ cls := "PathAlgebra", name := "or", desc := "()I" } : Jvm.MethodName)) ∈ lw_all := lw_g (lw_at lw_m1 98 rfl) rfl
theorem q118 : (Jvm.Cond.code ({ cls := "PathAlgebra", name := "or", desc := "()I" } : Jvm.MethodName) prog_1_method_12_code (2 : Nat) (Option.some Jvm.ClassFile.FieldType.int)) ∈ lw_all := lw_g (lw_at lw_m1 99 rfl) rfl
theorem q120 : (Jvm.Cond.instanceMethod ({ cls := "PathAlgebra", name := "star", desc := "()I" } : Jvm.MethodName)) ∈ lw_all := lw_g (lw_at lw_m1 101 rfl) rfl
theorem q121 : (Jvm.Cond.selects "PathAlgebra" ({ cls := "PathAlgebra", name := "star", desc := "()I" } : Jvm.MethodName) ({ cls := "PathAlgebra", name := "star", desc := "()I" } : Jvm.MethodName)) ∈ lw_all := lw_g (lw_at lw_m1 102 rfl) rfl
theorem q122 : (Jvm.Cond.code ({ cls := "PathAlgebra", name := "star", desc := "()I" } : Jvm.MethodName) prog_1_method_13_code (4 : Nat) (Option.some Jvm.ClassFile.FieldType.int)) ∈ lw_all := lw_g (lw_at lw_m1 103 rfl) rfl
theorem q124 : (Jvm.Cond.instanceMethod ({ cls := "PathAlgebra", name := "clear", desc := "()V" } : Jvm.MethodName)) ∈ lw_all := lw_g (lw_at lw_m1 105 rfl) rfl
theorem q125 : (Jvm.Cond.selects "PathAlgebra" ({ cls := "PathAlgebra", name := "clear", desc := "()V" } : Jvm.MethodName) ({ cls := "PathAlgebra", name := "clear", desc := "()V" } : Jvm.MethodName)) ∈ lw_all := lw_g (lw_at lw_m1 106 rfl) rfl
theorem q126 : (Jvm.Cond.code ({ cls := "PathAlgebra", name := "clear", desc := "()V" } : Jvm.MethodName) prog_1_method_14_code (1 : Nat) (Option.none : Option Jvm.ClassFile.FieldType)) ∈ lw_all := lw_g (lw_at lw_m1 107 rfl) rfl
theorem q128 : (Jvm.Cond.instanceMethod ({ cls := "PathAlgebra", name := "leads", desc := "(II)Z" } : Jvm.MethodName)) ∈ lw_all := lw_g (lw_at lw_m1 109 rfl) rfl
theorem q129 : (Jvm.Cond.selects "PathAlgebra" ({ cls := "PathAlgebra", name := "leads", desc := "(II)Z" } : Jvm.MethodName) ({ cls := "PathAlgebra", name := "leads", desc := "(II)Z" } : Jvm.MethodName)) ∈ lw_all := lw_g (lw_at lw_m1 110 rfl) rfl
theorem q130 : (Jvm.Cond.code ({ cls := "PathAlgebra", name := "leads", desc := "(II)Z" } : Jvm.MethodName) prog_1_method_22_code (4 : Nat) (Option.some Jvm.ClassFile.FieldType.boolean)) ∈ lw_all := lw_g (lw_at lw_m1 111 rfl) rfl
theorem q131 : (Jvm.Cond.methodLink "PathAlgebra" (91 : Nat) ({ cls := "PathAlgebra", name := "badNode", desc := "(I)Z" } : Jvm.MethodName)) ∈ lw_all := lw_g (lw_at lw_m1 112 rfl) rfl
theorem q132 : (Jvm.Cond.static ({ cls := "PathAlgebra", name := "badNode", desc := "(I)Z" } : Jvm.MethodName)) ∈ lw_all := lw_g (lw_at lw_m1 113 rfl) rfl
theorem q133 : (Jvm.Cond.code ({ cls := "PathAlgebra", name := "badNode", desc := "(I)Z" } : Jvm.MethodName) prog_1_method_2_code (1 : Nat) (Option.some Jvm.ClassFile.FieldType.boolean)) ∈ lw_all := lw_g (lw_at lw_m1 114 rfl) rfl
theorem q134 : (Jvm.Cond.methodLink "PathAlgebra" (94 : Nat) ({ cls := "PathAlgebra", name := "search", desc := "(I)V" } : Jvm.MethodName)) ∈ lw_all := lw_g (lw_at lw_m1 115 rfl) rfl
theorem q135 : (Jvm.Cond.privateMethod ({ cls := "PathAlgebra", name := "search", desc := "(I)V" } : Jvm.MethodName)) ∈ lw_tbl := lw_at lw_m1 116 rfl
theorem q136 : (Jvm.Cond.instanceMethod ({ cls := "PathAlgebra", name := "search", desc := "(I)V" } : Jvm.MethodName)) ∈ lw_all := lw_g (lw_at lw_m1 117 rfl) rfl
theorem q137 : (Jvm.Cond.code ({ cls := "PathAlgebra", name := "search", desc := "(I)V" } : Jvm.MethodName) prog_1_method_20_code (4 : Nat) (Option.none : Option Jvm.ClassFile.FieldType)) ∈ lw_all := lw_g (lw_at lw_m1 118 rfl) rfl
theorem q138 : (Jvm.Cond.methodLink "PathAlgebra" (77 : Nat) ({ cls := "PathAlgebra", name := "reachHere", desc := "(III)V" } : Jvm.MethodName)) ∈ lw_all := lw_g (lw_at lw_m1 119 rfl) rfl
theorem q139 : (Jvm.Cond.privateMethod ({ cls := "PathAlgebra", name := "reachHere", desc := "(III)V" } : Jvm.MethodName)) ∈ lw_tbl := lw_at lw_m1 120 rfl
theorem q140 : (Jvm.Cond.instanceMethod ({ cls := "PathAlgebra", name := "reachHere", desc := "(III)V" } : Jvm.MethodName)) ∈ lw_all := lw_g (lw_at lw_m1 121 rfl) rfl
theorem q141 : (Jvm.Cond.code ({ cls := "PathAlgebra", name := "reachHere", desc := "(III)V" } : Jvm.MethodName) prog_1_method_15_code (5 : Nat) (Option.none : Option Jvm.ClassFile.FieldType)) ∈ lw_all := lw_g (lw_at lw_m1 122 rfl) rfl
theorem q142 : (Jvm.Cond.methodLink "PathAlgebra" (87 : Nat) ({ cls := "PathAlgebra", name := "workLevel", desc := "(I)V" } : Jvm.MethodName)) ∈ lw_all := lw_g (lw_at lw_m1 123 rfl) rfl
theorem q143 : (Jvm.Cond.privateMethod ({ cls := "PathAlgebra", name := "workLevel", desc := "(I)V" } : Jvm.MethodName)) ∈ lw_tbl := lw_at lw_m1 124 rfl
theorem q144 : (Jvm.Cond.instanceMethod ({ cls := "PathAlgebra", name := "workLevel", desc := "(I)V" } : Jvm.MethodName)) ∈ lw_all := lw_g (lw_at lw_m1 125 rfl) rfl
theorem q145 : (Jvm.Cond.code ({ cls := "PathAlgebra", name := "workLevel", desc := "(I)V" } : Jvm.MethodName) prog_1_method_19_code (6 : Nat) (Option.none : Option Jvm.ClassFile.FieldType)) ∈ lw_all := lw_g (lw_at lw_m1 126 rfl) rfl
theorem q146 : (Jvm.Cond.methodLink "PathAlgebra" (84 : Nat) ({ cls := "PathAlgebra", name := "follow", desc := "(III)V" } : Jvm.MethodName)) ∈ lw_all := lw_g (lw_at lw_m1 127 rfl) rfl
theorem q147 : (Jvm.Cond.privateMethod ({ cls := "PathAlgebra", name := "follow", desc := "(III)V" } : Jvm.MethodName)) ∈ lw_tbl := lw_at lw_m1 128 rfl
theorem q148 : (Jvm.Cond.instanceMethod ({ cls := "PathAlgebra", name := "follow", desc := "(III)V" } : Jvm.MethodName)) ∈ lw_all := lw_g (lw_at lw_m1 129 rfl) rfl
theorem q149 : (Jvm.Cond.code ({ cls := "PathAlgebra", name := "follow", desc := "(III)V" } : Jvm.MethodName) prog_1_method_18_code (5 : Nat) (Option.none : Option Jvm.ClassFile.FieldType)) ∈ lw_all := lw_g (lw_at lw_m1 130 rfl) rfl
theorem q150 : (Jvm.Cond.methodLink "PathAlgebra" (80 : Nat) ({ cls := "PathAlgebra", name := "keepComing", desc := "(II)V" } : Jvm.MethodName)) ∈ lw_all := lw_g (lw_at lw_m1 131 rfl) rfl
theorem q151 : (Jvm.Cond.privateMethod ({ cls := "PathAlgebra", name := "keepComing", desc := "(II)V" } : Jvm.MethodName)) ∈ lw_tbl := lw_at lw_m1 132 rfl
theorem q152 : (Jvm.Cond.instanceMethod ({ cls := "PathAlgebra", name := "keepComing", desc := "(II)V" } : Jvm.MethodName)) ∈ lw_all := lw_g (lw_at lw_m1 133 rfl) rfl
theorem q153 : (Jvm.Cond.code ({ cls := "PathAlgebra", name := "keepComing", desc := "(II)V" } : Jvm.MethodName) prog_1_method_16_code (6 : Nat) (Option.none : Option Jvm.ClassFile.FieldType)) ∈ lw_all := lw_g (lw_at lw_m1 134 rfl) rfl
theorem q154 : (Jvm.Cond.methodLink "PathAlgebra" (74 : Nat) ({ cls := "PathAlgebra", name := "isComing", desc := "(I)Z" } : Jvm.MethodName)) ∈ lw_all := lw_g (lw_at lw_m1 135 rfl) rfl
theorem q155 : (Jvm.Cond.privateMethod ({ cls := "PathAlgebra", name := "isComing", desc := "(I)Z" } : Jvm.MethodName)) ∈ lw_tbl := lw_at lw_m1 136 rfl
theorem q156 : (Jvm.Cond.instanceMethod ({ cls := "PathAlgebra", name := "isComing", desc := "(I)Z" } : Jvm.MethodName)) ∈ lw_all := lw_g (lw_at lw_m1 137 rfl) rfl
theorem q157 : (Jvm.Cond.code ({ cls := "PathAlgebra", name := "isComing", desc := "(I)Z" } : Jvm.MethodName) prog_1_method_17_code (3 : Nat) (Option.some Jvm.ClassFile.FieldType.boolean)) ∈ lw_all := lw_g (lw_at lw_m1 138 rfl) rfl
theorem q158 : (Jvm.Cond.methodLink "PathAlgebra" (97 : Nat) ({ cls := "PathAlgebra", name := "lengthTo", desc := "(I)I" } : Jvm.MethodName)) ∈ lw_all := lw_g (lw_at lw_m1 139 rfl) rfl
theorem q159 : (Jvm.Cond.privateMethod ({ cls := "PathAlgebra", name := "lengthTo", desc := "(I)I" } : Jvm.MethodName)) ∈ lw_tbl := lw_at lw_m1 140 rfl
theorem q160 : (Jvm.Cond.instanceMethod ({ cls := "PathAlgebra", name := "lengthTo", desc := "(I)I" } : Jvm.MethodName)) ∈ lw_all := lw_g (lw_at lw_m1 141 rfl) rfl
theorem q161 : (Jvm.Cond.code ({ cls := "PathAlgebra", name := "lengthTo", desc := "(I)I" } : Jvm.MethodName) prog_1_method_21_code (2 : Nat) (Option.some Jvm.ClassFile.FieldType.int)) ∈ lw_all := lw_g (lw_at lw_m1 142 rfl) rfl
theorem q163 : (Jvm.Cond.instanceMethod ({ cls := "PathAlgebra", name := "shortest", desc := "(II)I" } : Jvm.MethodName)) ∈ lw_all := lw_g (lw_at lw_m1 144 rfl) rfl
theorem q164 : (Jvm.Cond.selects "PathAlgebra" ({ cls := "PathAlgebra", name := "shortest", desc := "(II)I" } : Jvm.MethodName) ({ cls := "PathAlgebra", name := "shortest", desc := "(II)I" } : Jvm.MethodName)) ∈ lw_all := lw_g (lw_at lw_m1 145 rfl) rfl
theorem q165 : (Jvm.Cond.code ({ cls := "PathAlgebra", name := "shortest", desc := "(II)I" } : Jvm.MethodName) prog_1_method_23_code (4 : Nat) (Option.some Jvm.ClassFile.FieldType.int)) ∈ lw_all := lw_g (lw_at lw_m1 146 rfl) rfl
theorem q167 : (Jvm.Cond.instanceMethod ({ cls := "PathAlgebra", name := "reach", desc := "(I)I" } : Jvm.MethodName)) ∈ lw_all := lw_g (lw_at lw_m1 148 rfl) rfl
theorem q168 : (Jvm.Cond.selects "PathAlgebra" ({ cls := "PathAlgebra", name := "reach", desc := "(I)I" } : Jvm.MethodName) ({ cls := "PathAlgebra", name := "reach", desc := "(I)I" } : Jvm.MethodName)) ∈ lw_all := lw_g (lw_at lw_m1 149 rfl) rfl
theorem q169 : (Jvm.Cond.code ({ cls := "PathAlgebra", name := "reach", desc := "(I)I" } : Jvm.MethodName) prog_1_method_25_code (2 : Nat) (Option.some Jvm.ClassFile.FieldType.int)) ∈ lw_all := lw_g (lw_at lw_m1 150 rfl) rfl
theorem q170 : (Jvm.Cond.methodLink "PathAlgebra" (100 : Nat) ({ cls := "PathAlgebra", name := "reachFrom", desc := "(I)I" } : Jvm.MethodName)) ∈ lw_all := lw_g (lw_at lw_m1 151 rfl) rfl
theorem q171 : (Jvm.Cond.privateMethod ({ cls := "PathAlgebra", name := "reachFrom", desc := "(I)I" } : Jvm.MethodName)) ∈ lw_tbl := lw_at lw_m1 152 rfl
theorem q172 : (Jvm.Cond.instanceMethod ({ cls := "PathAlgebra", name := "reachFrom", desc := "(I)I" } : Jvm.MethodName)) ∈ lw_all := lw_g (lw_at lw_m1 153 rfl) rfl
theorem q173 : (Jvm.Cond.code ({ cls := "PathAlgebra", name := "reachFrom", desc := "(I)I" } : Jvm.MethodName) prog_1_method_24_code (5 : Nat) (Option.some Jvm.ClassFile.FieldType.int)) ∈ lw_all := lw_g (lw_at lw_m1 154 rfl) rfl
theorem q175 : (Jvm.Cond.instanceMethod ({ cls := "PathAlgebra", name := "pairs", desc := "()I" } : Jvm.MethodName)) ∈ lw_all := lw_g (lw_at lw_m1 156 rfl) rfl
theorem q176 : (Jvm.Cond.selects "PathAlgebra" ({ cls := "PathAlgebra", name := "pairs", desc := "()I" } : Jvm.MethodName) ({ cls := "PathAlgebra", name := "pairs", desc := "()I" } : Jvm.MethodName)) ∈ lw_all := lw_g (lw_at lw_m1 157 rfl) rfl
theorem q177 : (Jvm.Cond.code ({ cls := "PathAlgebra", name := "pairs", desc := "()I" } : Jvm.MethodName) prog_1_method_26_code (5 : Nat) (Option.some Jvm.ClassFile.FieldType.int)) ∈ lw_all := lw_g (lw_at lw_m1 158 rfl) rfl
theorem q179 : (Jvm.Cond.instanceMethod ({ cls := "PathAlgebra", name := "loops", desc := "()I" } : Jvm.MethodName)) ∈ lw_all := lw_g (lw_at lw_m1 160 rfl) rfl
theorem q180 : (Jvm.Cond.selects "PathAlgebra" ({ cls := "PathAlgebra", name := "loops", desc := "()I" } : Jvm.MethodName) ({ cls := "PathAlgebra", name := "loops", desc := "()I" } : Jvm.MethodName)) ∈ lw_all := lw_g (lw_at lw_m1 161 rfl) rfl
theorem q181 : (Jvm.Cond.code ({ cls := "PathAlgebra", name := "loops", desc := "()I" } : Jvm.MethodName) prog_1_method_27_code (4 : Nat) (Option.some Jvm.ClassFile.FieldType.int)) ∈ lw_all := lw_g (lw_at lw_m1 162 rfl) rfl
theorem q183 : (Jvm.Cond.instanceMethod ({ cls := "PathAlgebra", name := "widest", desc := "()I" } : Jvm.MethodName)) ∈ lw_all := lw_g (lw_at lw_m1 164 rfl) rfl
theorem q184 : (Jvm.Cond.selects "PathAlgebra" ({ cls := "PathAlgebra", name := "widest", desc := "()I" } : Jvm.MethodName) ({ cls := "PathAlgebra", name := "widest", desc := "()I" } : Jvm.MethodName)) ∈ lw_all := lw_g (lw_at lw_m1 165 rfl) rfl
theorem q185 : (Jvm.Cond.code ({ cls := "PathAlgebra", name := "widest", desc := "()I" } : Jvm.MethodName) prog_1_method_28_code (5 : Nat) (Option.some Jvm.ClassFile.FieldType.int)) ∈ lw_all := lw_g (lw_at lw_m1 166 rfl) rfl
theorem q187 : (Jvm.Cond.instanceMethod ({ cls := "PathAlgebra", name := "steps", desc := "()I" } : Jvm.MethodName)) ∈ lw_all := lw_g (lw_at lw_m1 168 rfl) rfl
theorem q188 : (Jvm.Cond.selects "PathAlgebra" ({ cls := "PathAlgebra", name := "steps", desc := "()I" } : Jvm.MethodName) ({ cls := "PathAlgebra", name := "steps", desc := "()I" } : Jvm.MethodName)) ∈ lw_all := lw_g (lw_at lw_m1 169 rfl) rfl
theorem q189 : (Jvm.Cond.code ({ cls := "PathAlgebra", name := "steps", desc := "()I" } : Jvm.MethodName) prog_1_method_29_code (1 : Nat) (Option.some Jvm.ClassFile.FieldType.int)) ∈ lw_all := lw_g (lw_at lw_m1 170 rfl) rfl
theorem in_X0 : ∀ w ∈ wsX00, w ∈ lw_all := lw_in wsX00 [46, 48, 50, 52, 54, 56, 58, 60, 62, 64, 66, 68, 70, 72, 74, 76] (by decide +kernel) (by decide +kernel)
theorem q21 : (Jvm.Cond.initialized "PathAlgebraModel") ∈ lw_all := lw_g (lw_at lw_m1 2 rfl) rfl
theorem q191 : (Jvm.Cond.instantiable "PathAlgebraModel" (6 : Nat)) ∈ lw_all := lw_g (lw_at lw_m1 172 rfl) rfl
theorem q193 : (Jvm.Cond.instanceMethod ({ cls := "PathAlgebraModel", name := "<init>", desc := "()V" } : Jvm.MethodName)) ∈ lw_all := lw_g (lw_at lw_m1 174 rfl) rfl
theorem q194 : (Jvm.Cond.code ({ cls := "PathAlgebraModel", name := "<init>", desc := "()V" } : Jvm.MethodName) prog_3_method_1_code (1 : Nat) (Option.none : Option Jvm.ClassFile.FieldType)) ∈ lw_all := lw_g (lw_at lw_m1 175 rfl) rfl
theorem q195 : (Jvm.Cond.methodLink "PathAlgebraModel" (1 : Nat) ({ cls := "java/lang/Object", name := "<init>", desc := "()V" } : Jvm.MethodName)) ∈ lw_all := lw_g (lw_at lw_m1 176 rfl) rfl
theorem q196 : (Jvm.Cond.fieldLink "PathAlgebraModel" (7 : Nat) "PathAlgebraModel" "edges" "[Z") ∈ lw_all := lw_g (lw_at lw_m1 177 rfl) rfl
theorem q197 : (Jvm.Cond.fieldLink "PathAlgebraModel" (23 : Nat) "PathAlgebraModel" "made" "I") ∈ lw_all := lw_g (lw_at lw_m1 178 rfl) rfl
theorem q198 : (Jvm.Cond.fieldLink "PathAlgebraModel" (13 : Nat) "PathAlgebraModel" "kinds" "[I") ∈ lw_all := lw_g (lw_at lw_m1 179 rfl) rfl
theorem q199 : (Jvm.Cond.fieldLink "PathAlgebraModel" (17 : Nat) "PathAlgebraModel" "numbers" "[I") ∈ lw_all := lw_g (lw_at lw_m1 180 rfl) rfl
theorem q200 : (Jvm.Cond.fieldLink "PathAlgebraModel" (27 : Nat) "PathAlgebraModel" "high" "I") ∈ lw_all := lw_g (lw_at lw_m1 181 rfl) rfl
theorem q201 : (Jvm.Cond.fieldLink "PathAlgebraModel" (20 : Nat) "PathAlgebraModel" "table" "[I") ∈ lw_all := lw_g (lw_at lw_m1 182 rfl) rfl
theorem q202 : (Jvm.Cond.laysFinal "PathAlgebraModel" "PathAlgebraModel" "edges" "[Z") ∈ lw_all := lw_g (lw_at lw_m1 183 rfl) rfl
theorem q203 : (Jvm.Cond.soleField "PathAlgebraModel" "edges") ∈ lw_all := lw_g (lw_at lw_m1 184 rfl) rfl
theorem q204 : (Jvm.Cond.lays "PathAlgebraModel" "PathAlgebraModel" "made" "I") ∈ lw_all := lw_g (lw_at lw_m1 185 rfl) rfl
theorem q205 : (Jvm.Cond.soleField "PathAlgebraModel" "made") ∈ lw_all := lw_g (lw_at lw_m1 186 rfl) rfl
theorem q206 : (Jvm.Cond.laysFinal "PathAlgebraModel" "PathAlgebraModel" "kinds" "[I") ∈ lw_all := lw_g (lw_at lw_m1 187 rfl) rfl
theorem q207 : (Jvm.Cond.soleField "PathAlgebraModel" "kinds") ∈ lw_all := lw_g (lw_at lw_m1 188 rfl) rfl
theorem q208 : (Jvm.Cond.laysFinal "PathAlgebraModel" "PathAlgebraModel" "numbers" "[I") ∈ lw_all := lw_g (lw_at lw_m1 189 rfl) rfl
theorem q209 : (Jvm.Cond.soleField "PathAlgebraModel" "numbers") ∈ lw_all := lw_g (lw_at lw_m1 190 rfl) rfl
theorem q210 : (Jvm.Cond.lays "PathAlgebraModel" "PathAlgebraModel" "high" "I") ∈ lw_all := lw_g (lw_at lw_m1 191 rfl) rfl
theorem q211 : (Jvm.Cond.soleField "PathAlgebraModel" "high") ∈ lw_all := lw_g (lw_at lw_m1 192 rfl) rfl
theorem q212 : (Jvm.Cond.laysFinal "PathAlgebraModel" "PathAlgebraModel" "table" "[I") ∈ lw_all := lw_g (lw_at lw_m1 193 rfl) rfl
theorem q213 : (Jvm.Cond.soleField "PathAlgebraModel" "table") ∈ lw_all := lw_g (lw_at lw_m1 194 rfl) rfl
theorem q214 : (Jvm.Cond.superclass "PathAlgebraModel" "java/lang/Object") ∈ lw_all := lw_g (lw_at lw_m1 195 rfl) rfl
theorem q217 : (Jvm.Cond.instanceMethod ({ cls := "PathAlgebraModel", name := "edge", desc := "(IIZ)I" } : Jvm.MethodName)) ∈ lw_all := lw_g (lw_at lw_m1 198 rfl) rfl
theorem q218 : (Jvm.Cond.selects "PathAlgebraModel" ({ cls := "PathAlgebraModel", name := "edge", desc := "(IIZ)I" } : Jvm.MethodName) ({ cls := "PathAlgebraModel", name := "edge", desc := "(IIZ)I" } : Jvm.MethodName)) ∈ lw_all := lw_g (lw_at lw_m1 199 rfl) rfl
theorem q219 : (Jvm.Cond.code ({ cls := "PathAlgebraModel", name := "edge", desc := "(IIZ)I" } : Jvm.MethodName) prog_3_method_2_code (5 : Nat) (Option.some Jvm.ClassFile.FieldType.int)) ∈ lw_all := lw_g (lw_at lw_m1 200 rfl) rfl
theorem q221 : (Jvm.Cond.instanceMethod ({ cls := "PathAlgebraModel", name := "label", desc := "(I)I" } : Jvm.MethodName)) ∈ lw_all := lw_g (lw_at lw_m1 202 rfl) rfl
theorem q222 : (Jvm.Cond.selects "PathAlgebraModel" ({ cls := "PathAlgebraModel", name := "label", desc := "(I)I" } : Jvm.MethodName) ({ cls := "PathAlgebraModel", name := "label", desc := "(I)I" } : Jvm.MethodName)) ∈ lw_all := lw_g (lw_at lw_m1 203 rfl) rfl
theorem q223 : (Jvm.Cond.code ({ cls := "PathAlgebraModel", name := "label", desc := "(I)I" } : Jvm.MethodName) prog_3_method_4_code (2 : Nat) (Option.some Jvm.ClassFile.FieldType.int)) ∈ lw_all := lw_g (lw_at lw_m1 204 rfl) rfl
theorem q224 : (Jvm.Cond.methodLink "PathAlgebraModel" (30 : Nat) ({ cls := "PathAlgebraModel", name := "step", desc := "(III)I" } : Jvm.MethodName)) ∈ lw_all := lw_g (lw_at lw_m1 205 rfl) rfl
theorem q225 : (Jvm.Cond.privateMethod ({ cls := "PathAlgebraModel", name := "step", desc := "(III)I" } : Jvm.MethodName)) ∈ lw_tbl := lw_at lw_m1 206 rfl
theorem q226 : (Jvm.Cond.instanceMethod ({ cls := "PathAlgebraModel", name := "step", desc := "(III)I" } : Jvm.MethodName)) ∈ lw_all := lw_g (lw_at lw_m1 207 rfl) rfl
theorem q227 : (Jvm.Cond.code ({ cls := "PathAlgebraModel", name := "step", desc := "(III)I" } : Jvm.MethodName) prog_3_method_3_code (4 : Nat) (Option.some Jvm.ClassFile.FieldType.int)) ∈ lw_all := lw_g (lw_at lw_m1 208 rfl) rfl
theorem q229 : (Jvm.Cond.instanceMethod ({ cls := "PathAlgebraModel", name := "back", desc := "(I)I" } : Jvm.MethodName)) ∈ lw_all := lw_g (lw_at lw_m1 210 rfl) rfl
theorem q230 : (Jvm.Cond.selects "PathAlgebraModel" ({ cls := "PathAlgebraModel", name := "back", desc := "(I)I" } : Jvm.MethodName) ({ cls := "PathAlgebraModel", name := "back", desc := "(I)I" } : Jvm.MethodName)) ∈ lw_all := lw_g (lw_at lw_m1 211 rfl) rfl
theorem q231 : (Jvm.Cond.code ({ cls := "PathAlgebraModel", name := "back", desc := "(I)I" } : Jvm.MethodName) prog_3_method_5_code (2 : Nat) (Option.some Jvm.ClassFile.FieldType.int)) ∈ lw_all := lw_g (lw_at lw_m1 212 rfl) rfl
theorem q233 : (Jvm.Cond.instanceMethod ({ cls := "PathAlgebraModel", name := "at", desc := "(I)I" } : Jvm.MethodName)) ∈ lw_all := lw_g (lw_at lw_m1 214 rfl) rfl
theorem q234 : (Jvm.Cond.selects "PathAlgebraModel" ({ cls := "PathAlgebraModel", name := "at", desc := "(I)I" } : Jvm.MethodName) ({ cls := "PathAlgebraModel", name := "at", desc := "(I)I" } : Jvm.MethodName)) ∈ lw_all := lw_g (lw_at lw_m1 215 rfl) rfl
theorem q235 : (Jvm.Cond.code ({ cls := "PathAlgebraModel", name := "at", desc := "(I)I" } : Jvm.MethodName) prog_3_method_6_code (2 : Nat) (Option.some Jvm.ClassFile.FieldType.int)) ∈ lw_all := lw_g (lw_at lw_m1 216 rfl) rfl
theorem q237 : (Jvm.Cond.instanceMethod ({ cls := "PathAlgebraModel", name := "then", desc := "()I" } : Jvm.MethodName)) ∈ lw_all := lw_g (lw_at lw_m1 218 rfl) rfl
theorem q238 : (Jvm.Cond.selects "PathAlgebraModel" ({ cls := "PathAlgebraModel", name := "then", desc := "()I" } : Jvm.MethodName) ({ cls := "PathAlgebraModel", name := "then", desc := "()I" } : Jvm.MethodName)) ∈ lw_all := lw_g (lw_at lw_m1 219 rfl) rfl
theorem q239 : (Jvm.Cond.code ({ cls := "PathAlgebraModel", name := "then", desc := "()I" } : Jvm.MethodName) prog_3_method_7_code (1 : Nat) (Option.some Jvm.ClassFile.FieldType.int)) ∈ lw_all := lw_g (lw_at lw_m1 220 rfl) rfl
theorem q241 : (Jvm.Cond.instanceMethod ({ cls := "PathAlgebraModel", name := "or", desc := "()I" } : Jvm.MethodName)) ∈ lw_all := lw_g (lw_at lw_m1 222 rfl) rfl
theorem q242 : (Jvm.Cond.selects "PathAlgebraModel" ({ cls := "PathAlgebraModel", name := "or", desc := "()I" } : Jvm.MethodName) ({ cls := "PathAlgebraModel", name := "or", desc := "()I" } : Jvm.MethodName)) ∈ lw_all := lw_g (lw_at lw_m1 223 rfl) rfl
theorem q243 : (Jvm.Cond.code ({ cls := "PathAlgebraModel", name := "or", desc := "()I" } : Jvm.MethodName) prog_3_method_8_code (1 : Nat) (Option.some Jvm.ClassFile.FieldType.int)) ∈ lw_all := lw_g (lw_at lw_m1 224 rfl) rfl
theorem q245 : (Jvm.Cond.instanceMethod ({ cls := "PathAlgebraModel", name := "star", desc := "()I" } : Jvm.MethodName)) ∈ lw_all := lw_g (lw_at lw_m1 226 rfl) rfl
theorem q246 : (Jvm.Cond.selects "PathAlgebraModel" ({ cls := "PathAlgebraModel", name := "star", desc := "()I" } : Jvm.MethodName) ({ cls := "PathAlgebraModel", name := "star", desc := "()I" } : Jvm.MethodName)) ∈ lw_all := lw_g (lw_at lw_m1 227 rfl) rfl
theorem q247 : (Jvm.Cond.code ({ cls := "PathAlgebraModel", name := "star", desc := "()I" } : Jvm.MethodName) prog_3_method_9_code (1 : Nat) (Option.some Jvm.ClassFile.FieldType.int)) ∈ lw_all := lw_g (lw_at lw_m1 228 rfl) rfl
theorem q249 : (Jvm.Cond.instanceMethod ({ cls := "PathAlgebraModel", name := "clear", desc := "()V" } : Jvm.MethodName)) ∈ lw_all := lw_g (lw_at lw_m1 230 rfl) rfl
theorem q250 : (Jvm.Cond.selects "PathAlgebraModel" ({ cls := "PathAlgebraModel", name := "clear", desc := "()V" } : Jvm.MethodName) ({ cls := "PathAlgebraModel", name := "clear", desc := "()V" } : Jvm.MethodName)) ∈ lw_all := lw_g (lw_at lw_m1 231 rfl) rfl
theorem q251 : (Jvm.Cond.code ({ cls := "PathAlgebraModel", name := "clear", desc := "()V" } : Jvm.MethodName) prog_3_method_10_code (1 : Nat) (Option.none : Option Jvm.ClassFile.FieldType)) ∈ lw_all := lw_g (lw_at lw_m1 232 rfl) rfl
theorem q253 : (Jvm.Cond.instanceMethod ({ cls := "PathAlgebraModel", name := "leads", desc := "(II)Z" } : Jvm.MethodName)) ∈ lw_all := lw_g (lw_at lw_m1 234 rfl) rfl
theorem q254 : (Jvm.Cond.selects "PathAlgebraModel" ({ cls := "PathAlgebraModel", name := "leads", desc := "(II)Z" } : Jvm.MethodName) ({ cls := "PathAlgebraModel", name := "leads", desc := "(II)Z" } : Jvm.MethodName)) ∈ lw_all := lw_g (lw_at lw_m1 235 rfl) rfl
theorem q255 : (Jvm.Cond.code ({ cls := "PathAlgebraModel", name := "leads", desc := "(II)Z" } : Jvm.MethodName) prog_3_method_18_code (4 : Nat) (Option.some Jvm.ClassFile.FieldType.boolean)) ∈ lw_all := lw_g (lw_at lw_m1 236 rfl) rfl
theorem q256 : (Jvm.Cond.methodLink "PathAlgebraModel" (50 : Nat) ({ cls := "PathAlgebraModel", name := "bad", desc := "(I)Z" } : Jvm.MethodName)) ∈ lw_all := lw_g (lw_at lw_m1 237 rfl) rfl
theorem q257 : (Jvm.Cond.privateMethod ({ cls := "PathAlgebraModel", name := "bad", desc := "(I)Z" } : Jvm.MethodName)) ∈ lw_tbl := lw_at lw_m1 238 rfl
theorem q258 : (Jvm.Cond.instanceMethod ({ cls := "PathAlgebraModel", name := "bad", desc := "(I)Z" } : Jvm.MethodName)) ∈ lw_all := lw_g (lw_at lw_m1 239 rfl) rfl
theorem q259 : (Jvm.Cond.code ({ cls := "PathAlgebraModel", name := "bad", desc := "(I)Z" } : Jvm.MethodName) prog_3_method_16_code (2 : Nat) (Option.some Jvm.ClassFile.FieldType.boolean)) ∈ lw_all := lw_g (lw_at lw_m2 0 rfl) rfl
theorem q260 : (Jvm.Cond.methodLink "PathAlgebraModel" (54 : Nat) ({ cls := "PathAlgebraModel", name := "workOut", desc := "()I" } : Jvm.MethodName)) ∈ lw_all := lw_g (lw_at lw_m2 1 rfl) rfl
theorem q261 : (Jvm.Cond.privateMethod ({ cls := "PathAlgebraModel", name := "workOut", desc := "()I" } : Jvm.MethodName)) ∈ lw_tbl := lw_at lw_m2 2 rfl
theorem q262 : (Jvm.Cond.instanceMethod ({ cls := "PathAlgebraModel", name := "workOut", desc := "()I" } : Jvm.MethodName)) ∈ lw_all := lw_g (lw_at lw_m2 3 rfl) rfl
theorem q263 : (Jvm.Cond.code ({ cls := "PathAlgebraModel", name := "workOut", desc := "()I" } : Jvm.MethodName) prog_3_method_15_code (4 : Nat) (Option.some Jvm.ClassFile.FieldType.int)) ∈ lw_all := lw_g (lw_at lw_m2 4 rfl) rfl
theorem q264 : (Jvm.Cond.methodLink "PathAlgebraModel" (39 : Nat) ({ cls := "PathAlgebraModel", name := "single", desc := "(IIII)I" } : Jvm.MethodName)) ∈ lw_all := lw_g (lw_at lw_m2 5 rfl) rfl
theorem q265 : (Jvm.Cond.privateMethod ({ cls := "PathAlgebraModel", name := "single", desc := "(IIII)I" } : Jvm.MethodName)) ∈ lw_tbl := lw_at lw_m2 6 rfl
theorem q266 : (Jvm.Cond.instanceMethod ({ cls := "PathAlgebraModel", name := "single", desc := "(IIII)I" } : Jvm.MethodName)) ∈ lw_all := lw_g (lw_at lw_m2 7 rfl) rfl
theorem q267 : (Jvm.Cond.code ({ cls := "PathAlgebraModel", name := "single", desc := "(IIII)I" } : Jvm.MethodName) prog_3_method_12_code (6 : Nat) (Option.some Jvm.ClassFile.FieldType.int)) ∈ lw_all := lw_g (lw_at lw_m2 8 rfl) rfl
theorem q268 : (Jvm.Cond.constant "PathAlgebraModel" (34 : Nat) (100000 : Int32)) ∈ lw_all := lw_g (lw_at lw_m2 9 rfl) rfl
theorem q269 : (Jvm.Cond.methodLink "PathAlgebraModel" (43 : Nat) ({ cls := "PathAlgebraModel", name := "join", desc := "(I)V" } : Jvm.MethodName)) ∈ lw_all := lw_g (lw_at lw_m2 10 rfl) rfl
theorem q270 : (Jvm.Cond.privateMethod ({ cls := "PathAlgebraModel", name := "join", desc := "(I)V" } : Jvm.MethodName)) ∈ lw_tbl := lw_at lw_m2 11 rfl
theorem q271 : (Jvm.Cond.instanceMethod ({ cls := "PathAlgebraModel", name := "join", desc := "(I)V" } : Jvm.MethodName)) ∈ lw_all := lw_g (lw_at lw_m2 12 rfl) rfl
theorem q272 : (Jvm.Cond.code ({ cls := "PathAlgebraModel", name := "join", desc := "(I)V" } : Jvm.MethodName) prog_3_method_13_code (7 : Nat) (Option.none : Option Jvm.ClassFile.FieldType)) ∈ lw_all := lw_g (lw_at lw_m2 13 rfl) rfl
theorem q273 : (Jvm.Cond.methodLink "PathAlgebraModel" (35 : Nat) ({ cls := "PathAlgebraModel", name := "least", desc := "(II)I" } : Jvm.MethodName)) ∈ lw_all := lw_g (lw_at lw_m2 14 rfl) rfl
theorem q274 : (Jvm.Cond.privateMethod ({ cls := "PathAlgebraModel", name := "least", desc := "(II)I" } : Jvm.MethodName)) ∈ lw_tbl := lw_at lw_m2 15 rfl
theorem q275 : (Jvm.Cond.instanceMethod ({ cls := "PathAlgebraModel", name := "least", desc := "(II)I" } : Jvm.MethodName)) ∈ lw_all := lw_g (lw_at lw_m2 16 rfl) rfl
theorem q276 : (Jvm.Cond.code ({ cls := "PathAlgebraModel", name := "least", desc := "(II)I" } : Jvm.MethodName) prog_3_method_11_code (3 : Nat) (Option.some Jvm.ClassFile.FieldType.int)) ∈ lw_all := lw_g (lw_at lw_m2 17 rfl) rfl
theorem q277 : (Jvm.Cond.methodLink "PathAlgebraModel" (47 : Nat) ({ cls := "PathAlgebraModel", name := "close", desc := "(I)V" } : Jvm.MethodName)) ∈ lw_all := lw_g (lw_at lw_m2 18 rfl) rfl
theorem q278 : (Jvm.Cond.privateMethod ({ cls := "PathAlgebraModel", name := "close", desc := "(I)V" } : Jvm.MethodName)) ∈ lw_tbl := lw_at lw_m2 19 rfl
theorem q279 : (Jvm.Cond.instanceMethod ({ cls := "PathAlgebraModel", name := "close", desc := "(I)V" } : Jvm.MethodName)) ∈ lw_all := lw_g (lw_at lw_m2 20 rfl) rfl
theorem q280 : (Jvm.Cond.code ({ cls := "PathAlgebraModel", name := "close", desc := "(I)V" } : Jvm.MethodName) prog_3_method_14_code (6 : Nat) (Option.none : Option Jvm.ClassFile.FieldType)) ∈ lw_all := lw_g (lw_at lw_m2 21 rfl) rfl
theorem q281 : (Jvm.Cond.methodLink "PathAlgebraModel" (58 : Nat) ({ cls := "PathAlgebraModel", name := "length", desc := "(III)I" } : Jvm.MethodName)) ∈ lw_all := lw_g (lw_at lw_m2 22 rfl) rfl
theorem q282 : (Jvm.Cond.privateMethod ({ cls := "PathAlgebraModel", name := "length", desc := "(III)I" } : Jvm.MethodName)) ∈ lw_tbl := lw_at lw_m2 23 rfl
theorem q283 : (Jvm.Cond.instanceMethod ({ cls := "PathAlgebraModel", name := "length", desc := "(III)I" } : Jvm.MethodName)) ∈ lw_all := lw_g (lw_at lw_m2 24 rfl) rfl
theorem q284 : (Jvm.Cond.code ({ cls := "PathAlgebraModel", name := "length", desc := "(III)I" } : Jvm.MethodName) prog_3_method_17_code (4 : Nat) (Option.some Jvm.ClassFile.FieldType.int)) ∈ lw_all := lw_g (lw_at lw_m2 25 rfl) rfl
theorem q286 : (Jvm.Cond.instanceMethod ({ cls := "PathAlgebraModel", name := "shortest", desc := "(II)I" } : Jvm.MethodName)) ∈ lw_all := lw_g (lw_at lw_m2 27 rfl) rfl
theorem q287 : (Jvm.Cond.selects "PathAlgebraModel" ({ cls := "PathAlgebraModel", name := "shortest", desc := "(II)I" } : Jvm.MethodName) ({ cls := "PathAlgebraModel", name := "shortest", desc := "(II)I" } : Jvm.MethodName)) ∈ lw_all := lw_g (lw_at lw_m2 28 rfl) rfl
theorem q288 : (Jvm.Cond.code ({ cls := "PathAlgebraModel", name := "shortest", desc := "(II)I" } : Jvm.MethodName) prog_3_method_19_code (5 : Nat) (Option.some Jvm.ClassFile.FieldType.int)) ∈ lw_all := lw_g (lw_at lw_m2 29 rfl) rfl
theorem q290 : (Jvm.Cond.instanceMethod ({ cls := "PathAlgebraModel", name := "reach", desc := "(I)I" } : Jvm.MethodName)) ∈ lw_all := lw_g (lw_at lw_m2 31 rfl) rfl
theorem q291 : (Jvm.Cond.selects "PathAlgebraModel" ({ cls := "PathAlgebraModel", name := "reach", desc := "(I)I" } : Jvm.MethodName) ({ cls := "PathAlgebraModel", name := "reach", desc := "(I)I" } : Jvm.MethodName)) ∈ lw_all := lw_g (lw_at lw_m2 32 rfl) rfl
theorem q292 : (Jvm.Cond.code ({ cls := "PathAlgebraModel", name := "reach", desc := "(I)I" } : Jvm.MethodName) prog_3_method_20_code (5 : Nat) (Option.some Jvm.ClassFile.FieldType.int)) ∈ lw_all := lw_g (lw_at lw_m2 33 rfl) rfl
theorem q294 : (Jvm.Cond.instanceMethod ({ cls := "PathAlgebraModel", name := "pairs", desc := "()I" } : Jvm.MethodName)) ∈ lw_all := lw_g (lw_at lw_m2 35 rfl) rfl
theorem q295 : (Jvm.Cond.selects "PathAlgebraModel" ({ cls := "PathAlgebraModel", name := "pairs", desc := "()I" } : Jvm.MethodName) ({ cls := "PathAlgebraModel", name := "pairs", desc := "()I" } : Jvm.MethodName)) ∈ lw_all := lw_g (lw_at lw_m2 36 rfl) rfl
theorem q296 : (Jvm.Cond.code ({ cls := "PathAlgebraModel", name := "pairs", desc := "()I" } : Jvm.MethodName) prog_3_method_21_code (4 : Nat) (Option.some Jvm.ClassFile.FieldType.int)) ∈ lw_all := lw_g (lw_at lw_m2 37 rfl) rfl
theorem q298 : (Jvm.Cond.instanceMethod ({ cls := "PathAlgebraModel", name := "loops", desc := "()I" } : Jvm.MethodName)) ∈ lw_all := lw_g (lw_at lw_m2 39 rfl) rfl
theorem q299 : (Jvm.Cond.selects "PathAlgebraModel" ({ cls := "PathAlgebraModel", name := "loops", desc := "()I" } : Jvm.MethodName) ({ cls := "PathAlgebraModel", name := "loops", desc := "()I" } : Jvm.MethodName)) ∈ lw_all := lw_g (lw_at lw_m2 40 rfl) rfl
theorem q300 : (Jvm.Cond.code ({ cls := "PathAlgebraModel", name := "loops", desc := "()I" } : Jvm.MethodName) prog_3_method_22_code (4 : Nat) (Option.some Jvm.ClassFile.FieldType.int)) ∈ lw_all := lw_g (lw_at lw_m2 41 rfl) rfl
theorem q302 : (Jvm.Cond.instanceMethod ({ cls := "PathAlgebraModel", name := "widest", desc := "()I" } : Jvm.MethodName)) ∈ lw_all := lw_g (lw_at lw_m2 43 rfl) rfl
theorem q303 : (Jvm.Cond.selects "PathAlgebraModel" ({ cls := "PathAlgebraModel", name := "widest", desc := "()I" } : Jvm.MethodName) ({ cls := "PathAlgebraModel", name := "widest", desc := "()I" } : Jvm.MethodName)) ∈ lw_all := lw_g (lw_at lw_m2 44 rfl) rfl
theorem q304 : (Jvm.Cond.code ({ cls := "PathAlgebraModel", name := "widest", desc := "()I" } : Jvm.MethodName) prog_3_method_23_code (5 : Nat) (Option.some Jvm.ClassFile.FieldType.int)) ∈ lw_all := lw_g (lw_at lw_m2 45 rfl) rfl
theorem q306 : (Jvm.Cond.instanceMethod ({ cls := "PathAlgebraModel", name := "steps", desc := "()I" } : Jvm.MethodName)) ∈ lw_all := lw_g (lw_at lw_m2 47 rfl) rfl
theorem q307 : (Jvm.Cond.selects "PathAlgebraModel" ({ cls := "PathAlgebraModel", name := "steps", desc := "()I" } : Jvm.MethodName) ({ cls := "PathAlgebraModel", name := "steps", desc := "()I" } : Jvm.MethodName)) ∈ lw_all := lw_g (lw_at lw_m2 48 rfl) rfl
theorem q308 : (Jvm.Cond.code ({ cls := "PathAlgebraModel", name := "steps", desc := "()I" } : Jvm.MethodName) prog_3_method_24_code (1 : Nat) (Option.some Jvm.ClassFile.FieldType.int)) ∈ lw_all := lw_g (lw_at lw_m2 49 rfl) rfl
theorem in_X1 : ∀ w ∈ wsX10, w ∈ lw_all := lw_in wsX10 [202, 204, 206, 208, 210, 212] (by decide +kernel) (by decide +kernel)
end
section
/-! plain facts to paste, each family by itself; over the kit's nI, lN and upd -/
/-! ===== drawers: more things than places ===== -/
theorem fb_holes : ∀ (m n : Nat) (f : Nat → Nat), (∀ i, i < n → f i < m) → (∀ i j, i < j → j < n → f i ≠ f j) → n ≤ m := by
  intro m
  induction m with
  | zero =>
    intro n f h1 _
    rcases Nat.eq_zero_or_pos n with h | h
    · omega
    · exact absurd (h1 0 h) (Nat.not_lt_zero _)
  | succ m ih =>
    intro n f h1 h2
    by_cases hx : ∃ i, i < n ∧ f i = m
    · obtain ⟨a, ha, hfa⟩ := hx
      have hg := ih (n - 1) (fun i => if i < a then f i else f (i + 1)) (by
        intro i hi
        by_cases q : i < a
        · simp only [if_pos q]
          have b1 := h1 i (by omega)
          have b2 := h2 i a q ha
          omega
        · simp only [if_neg q]
          have b1 := h1 (i + 1) (by omega)
          have b2 := h2 a (i + 1) (by omega) (by omega)
          omega) (by
        intro i j hij hj
        by_cases q : i < a
        · by_cases r : j < a
          · simp only [if_pos q, if_pos r]
            exact h2 i j hij (by omega)
          · simp only [if_pos q, if_neg r]
            exact h2 i (j + 1) (by omega) (by omega)
        · have r : ¬ j < a := by omega
          simp only [if_neg q, if_neg r]
          exact h2 (i + 1) (j + 1) (by omega) (by omega))
      omega
    · have hg := ih n f (fun i hi => by
        have b1 := h1 i hi
        have b2 : f i ≠ m := fun e => hx ⟨i, hi, e⟩
        omega) h2
      omega
/-- two of them in one place -/
theorem fb_twice {m n : Nat} {f : Nat → Nat} (h : ∀ i, i < n → f i < m) (hm : m < n) : ∃ i j, i < j ∧ j < n ∧ f i = f j := by
  refine Classical.byContradiction fun hx => ?_
  have := fb_holes m n f h (fun i j hij hj e => hx ⟨i, j, hij, hj, e⟩)
  omega
/-- as many as places, none twice: each place is taken -/
theorem fb_onto {n : Nat} {f : Nat → Nat} (h : ∀ i, i < n → f i < n) (h2 : ∀ i j, i < j → j < n → f i ≠ f j) {y : Nat} (hy : y < n) : ∃ i, i < n ∧ f i = y := by
  refine Classical.byContradiction fun hx => ?_
  have hne : ∀ i, i < n → f i ≠ y := fun i hi e => hx ⟨i, hi, e⟩
  have := fb_holes (n - 1) n (fun i => if f i < y then f i else f i - 1) (by
    intro i hi
    have b1 := h i hi
    have b2 := hne i hi
    by_cases q : f i < y
    · simp only [if_pos q]; omega
    · simp only [if_neg q]; omega) (by
    intro i j hij hj
    have b1 := hne i (by omega)
    have b2 := hne j hj
    have b3 := h2 i j hij hj
    by_cases q : f i < y
    · by_cases r : f j < y
      · simp only [if_pos q, if_pos r]; exact b3
      · simp only [if_pos q, if_neg r]; omega
    · by_cases r : f j < y
      · simp only [if_neg q, if_pos r]; omega
      · simp only [if_neg q, if_neg r]; omega)
  omega
/-! ===== how many places have a property ===== -/
def fb_ct (p : Nat → Bool) : Nat → Nat
  | 0 => 0
  | n + 1 => fb_ct p n + (if p n then 1 else 0)
theorem fb_ct_succ (p : Nat → Bool) (n : Nat) : fb_ct p (n + 1) = fb_ct p n + (if p n then 1 else 0) := rfl
theorem fb_ct_le (p : Nat → Bool) : ∀ n, fb_ct p n ≤ n
  | 0 => Nat.le_refl _
  | n + 1 => by
    have h := fb_ct_le p n
    rw [fb_ct_succ]
    split <;> omega
theorem fb_ct_step (p : Nat → Bool) (m : Nat) : ∀ n, fb_ct p m ≤ fb_ct p (m + n)
  | 0 => Nat.le_refl _
  | n + 1 => by
    have h := fb_ct_step p m n
    show fb_ct p m ≤ fb_ct p (m + n + 1)
    rw [fb_ct_succ]
    omega
theorem fb_ct_mono (p : Nat → Bool) {m n : Nat} (h : m ≤ n) : fb_ct p m ≤ fb_ct p n := by
  have := fb_ct_step p m (n - m)
  rwa [Nat.add_sub_cancel' h] at this
theorem fb_ct_cong {p q : Nat → Bool} : ∀ {n : Nat}, (∀ k, k < n → p k = q k) → fb_ct p n = fb_ct q n
  | 0, _ => rfl
  | n + 1, h => by
    rw [fb_ct_succ, fb_ct_succ, fb_ct_cong (fun k hk => h k (by omega)), h n (by omega)]
/-- one place changed -/
theorem fb_ct_out (p : Nat → Bool) (b : Bool) {i n : Nat} (h : n ≤ i) : fb_ct (fun k => if k = i then b else p k) n = fb_ct p n :=
  fb_ct_cong fun k hk => if_neg (by omega)
theorem fb_ct_upd (p : Nat → Bool) (b : Bool) {i : Nat} : ∀ {n : Nat}, i < n → fb_ct (fun k => if k = i then b else p k) n + (if p i then 1 else 0) = fb_ct p n + (if b then 1 else 0)
  | 0, h => absurd h (Nat.not_lt_zero i)
  | n + 1, h => by
    rw [fb_ct_succ, fb_ct_succ]
    rcases Nat.lt_or_ge i n with q | q
    · have := fb_ct_upd p b q
      have e : (if n = i then b else p n) = p n := if_neg (by omega)
      rw [e]
      omega
    · have e : i = n := by omega
      subst e
      rw [fb_ct_out p b (Nat.le_refl _)]
      simp only [if_true]
      omega
theorem fb_ct_sub {p q : Nat → Bool} : ∀ {n : Nat}, (∀ k, k < n → p k = true → q k = true) → fb_ct p n ≤ fb_ct q n
  | 0, _ => Nat.le_refl _
  | n + 1, h => by
    have h1 := fb_ct_sub (n := n) (p := p) (q := q) (fun k hk => h k (by omega))
    have h2 := h n (by omega)
    rw [fb_ct_succ, fb_ct_succ]
    cases hp : p n <;> cases hq : q n <;> simp_all <;> omega
theorem fb_ct_or {p q : Nat → Bool} : ∀ {n : Nat}, (∀ k, k < n → ¬ (p k = true ∧ q k = true)) → fb_ct (fun k => p k || q k) n = fb_ct p n + fb_ct q n
  | 0, _ => rfl
  | n + 1, h => by
    have h1 := fb_ct_or (n := n) (p := p) (q := q) (fun k hk => h k (by omega))
    have h2 := h n (by omega)
    rw [fb_ct_succ, fb_ct_succ, fb_ct_succ, h1]
    cases hp : p n <;> cases hq : q n <;> simp_all <;> omega
theorem fb_ct_not (p : Nat → Bool) : ∀ n, fb_ct p n + fb_ct (fun k => !p k) n = n
  | 0 => rfl
  | n + 1 => by
    have h := fb_ct_not p n
    rw [fb_ct_succ, fb_ct_succ]
    cases p n <;> simp <;> omega
theorem fb_ct_split (p : Nat → Bool) (m : Nat) : ∀ n, fb_ct p (m + n) = fb_ct p m + fb_ct (fun k => p (m + k)) n
  | 0 => rfl
  | n + 1 => by
    have h := fb_ct_split p m n
    show fb_ct p (m + n + 1) = _
    rw [fb_ct_succ, fb_ct_succ, h, Nat.add_assoc]
theorem fb_ct_zero {p : Nat → Bool} : ∀ {n : Nat}, fb_ct p n = 0 ↔ ∀ k, k < n → p k = false
  | 0 => ⟨fun _ k hk => absurd hk (Nat.not_lt_zero k), fun _ => rfl⟩
  | n + 1 => by
    have h := fb_ct_zero (p := p) (n := n)
    rw [fb_ct_succ]
    constructor
    · intro e k hk
      have e1 : fb_ct p n = 0 := by omega
      rcases Nat.lt_or_ge k n with q | q
      · exact h.mp e1 k q
      · have ek : k = n := by omega
        subst ek
        cases hp : p k
        · rfl
        · simp [hp] at e
    · intro a
      rw [h.mpr (fun k hk => a k (by omega)), a n (by omega)]
      rfl
theorem fb_ct_pos {p : Nat → Bool} {n : Nat} : 0 < fb_ct p n ↔ ∃ k, k < n ∧ p k = true := by
  constructor
  · intro h
    refine Classical.byContradiction fun hx => ?_
    have := fb_ct_zero.mpr (fun k hk => by
      cases hp : p k
      · rfl
      · exact absurd ⟨k, hk, hp⟩ hx : ∀ k, k < n → p k = false)
    omega
  · rintro ⟨k, hk, hp⟩
    rcases Nat.eq_zero_or_pos (fb_ct p n) with e | e
    · have := fb_ct_zero.mp e k hk
      rw [this] at hp
      cases hp
    · exact e
theorem fb_ct_all {p : Nat → Bool} {n : Nat} : fb_ct p n = n ↔ ∀ k, k < n → p k = true := by
  have h := fb_ct_not p n
  constructor
  · intro e k hk
    have z : fb_ct (fun k => !p k) n = 0 := by omega
    have := fb_ct_zero.mp z k hk
    cases hp : p k
    · simp [hp] at this
    · rfl
  · intro a
    have z : fb_ct (fun k => !p k) n = 0 := fb_ct_zero.mpr (fun k hk => by simp [a k hk])
    omega
/-- the k-th place with the property -/
theorem fb_ct_kth {p : Nat → Bool} {k : Nat} : ∀ {n : Nat}, k < fb_ct p n → ∃ i, i < n ∧ p i = true ∧ fb_ct p i = k
  | 0, h => absurd h (Nat.not_lt_zero k)
  | n + 1, h => by
    rcases Nat.lt_or_ge k (fb_ct p n) with q | q
    · obtain ⟨i, h1, h2⟩ := fb_ct_kth q
      exact ⟨i, by omega, h2⟩
    · rw [fb_ct_succ] at h
      cases hp : p n
      · simp [hp] at h; omega
      · simp [hp] at h
        exact ⟨n, by omega, hp, by omega⟩
theorem fb_ct_kth_one {p : Nat → Bool} {i j : Nat} (hi : p i = true) (hj : p j = true) (e : fb_ct p i = fb_ct p j) : i = j := by
  have key : ∀ a b : Nat, a < b → p a = true → fb_ct p a < fb_ct p b := by
    intro a b hab ha
    have h := fb_ct_mono p (show a + 1 ≤ b from hab)
    rw [fb_ct_succ, ha] at h
    simp at h
    omega
  rcases Nat.lt_trichotomy i j with q | q | q
  · have := key i j q hi; omega
  · exact q
  · have := key j i q hj; omega
/-! ===== sums over a range: one place changed, parts, bounds ===== -/
def fb_sm (f : Nat → Nat) : Nat → Nat
  | 0 => 0
  | n + 1 => fb_sm f n + f n
theorem fb_sm_succ (f : Nat → Nat) (n : Nat) : fb_sm f (n + 1) = fb_sm f n + f n := rfl
theorem fb_sm_cong {f g : Nat → Nat} : ∀ {n : Nat}, (∀ k, k < n → f k = g k) → fb_sm f n = fb_sm g n
  | 0, _ => rfl
  | n + 1, h => by rw [fb_sm_succ, fb_sm_succ, fb_sm_cong (fun k hk => h k (by omega)), h n (by omega)]
theorem fb_sm_out (f : Nat → Nat) (v : Nat) {i n : Nat} (h : n ≤ i) : fb_sm (fun k => if k = i then v else f k) n = fb_sm f n :=
  fb_sm_cong fun k hk => if_neg (by omega)
theorem fb_sm_upd (f : Nat → Nat) (v : Nat) {i : Nat} : ∀ {n : Nat}, i < n → fb_sm (fun k => if k = i then v else f k) n + f i = fb_sm f n + v
  | 0, h => absurd h (Nat.not_lt_zero i)
  | n + 1, h => by
    rw [fb_sm_succ, fb_sm_succ]
    rcases Nat.lt_or_ge i n with q | q
    · have := fb_sm_upd f v q
      have e : (if n = i then v else f n) = f n := if_neg (by omega)
      rw [e]
      omega
    · have e : i = n := by omega
      subst e
      rw [fb_sm_out f v (Nat.le_refl _)]
      simp only [if_true]
      omega
theorem fb_sm_add (f g : Nat → Nat) : ∀ n, fb_sm (fun k => f k + g k) n = fb_sm f n + fb_sm g n
  | 0 => rfl
  | n + 1 => by
    have h := fb_sm_add f g n
    rw [fb_sm_succ, fb_sm_succ, fb_sm_succ, h]
    omega
theorem fb_sm_le {f g : Nat → Nat} : ∀ {n : Nat}, (∀ k, k < n → f k ≤ g k) → fb_sm f n ≤ fb_sm g n
  | 0, _ => Nat.le_refl _
  | n + 1, h => by
    have h1 := fb_sm_le (n := n) (f := f) (g := g) (fun k hk => h k (by omega))
    have h2 := h n (by omega)
    rw [fb_sm_succ, fb_sm_succ]
    omega
theorem fb_sm_const (c : Nat) : ∀ n, fb_sm (fun _ => c) n = n * c
  | 0 => by rw [Nat.zero_mul]; rfl
  | n + 1 => by rw [fb_sm_succ, fb_sm_const c n, Nat.succ_mul]
theorem fb_sm_bound {f : Nat → Nat} {c n : Nat} (h : ∀ k, k < n → f k ≤ c) : fb_sm f n ≤ n * c := by
  rw [← fb_sm_const c n]
  exact fb_sm_le h
theorem fb_sm_mono (f : Nat → Nat) (m : Nat) : ∀ n, fb_sm f m ≤ fb_sm f (m + n)
  | 0 => Nat.le_refl _
  | n + 1 => by
    have h := fb_sm_mono f m n
    show fb_sm f m ≤ fb_sm f (m + n + 1)
    rw [fb_sm_succ]
    omega
theorem fb_sm_part (f : Nat → Nat) {i n : Nat} (h : i < n) : fb_sm f i + f i ≤ fb_sm f n := by
  have := fb_sm_mono f (i + 1) (n - (i + 1))
  rw [fb_sm_succ, show i + 1 + (n - (i + 1)) = n by omega] at this
  exact this
theorem fb_sm_split (f : Nat → Nat) (m : Nat) : ∀ n, fb_sm f (m + n) = fb_sm f m + fb_sm (fun k => f (m + k)) n
  | 0 => rfl
  | n + 1 => by
    have h := fb_sm_split f m n
    show fb_sm f (m + n + 1) = _
    rw [fb_sm_succ, fb_sm_succ, h, Nat.add_assoc]
theorem fb_sm_zero {f : Nat → Nat} {n : Nat} (h : fb_sm f n = 0) : ∀ k, k < n → f k = 0 := fun k hk => by
  have := fb_sm_part f hk
  omega
/-- the same over whole numbers -/
def fb_si (f : Nat → Int) : Nat → Int
  | 0 => 0
  | n + 1 => fb_si f n + f n
theorem fb_si_succ (f : Nat → Int) (n : Nat) : fb_si f (n + 1) = fb_si f n + f n := rfl
theorem fb_si_cong {f g : Nat → Int} : ∀ {n : Nat}, (∀ k, k < n → f k = g k) → fb_si f n = fb_si g n
  | 0, _ => rfl
  | n + 1, h => by rw [fb_si_succ, fb_si_succ, fb_si_cong (fun k hk => h k (by omega)), h n (by omega)]
theorem fb_si_out (f : Nat → Int) (v : Int) {i n : Nat} (h : n ≤ i) : fb_si (fun k => if k = i then v else f k) n = fb_si f n :=
  fb_si_cong fun k hk => if_neg (by omega)
theorem fb_si_upd (f : Nat → Int) (v : Int) {i : Nat} : ∀ {n : Nat}, i < n → fb_si (fun k => if k = i then v else f k) n = fb_si f n - f i + v
  | 0, h => absurd h (Nat.not_lt_zero i)
  | n + 1, h => by
    rw [fb_si_succ, fb_si_succ]
    rcases Nat.lt_or_ge i n with q | q
    · have := fb_si_upd f v q
      have e : (if n = i then v else f n) = f n := if_neg (by omega)
      rw [e]
      omega
    · have e : i = n := by omega
      subst e
      rw [fb_si_out f v (Nat.le_refl _)]
      simp only [if_true]
      omega
theorem fb_si_add (f g : Nat → Int) : ∀ n, fb_si (fun k => f k + g k) n = fb_si f n + fb_si g n
  | 0 => rfl
  | n + 1 => by
    have h := fb_si_add f g n
    rw [fb_si_succ, fb_si_succ, fb_si_succ, h]
    omega
theorem fb_si_sub (f g : Nat → Int) : ∀ n, fb_si (fun k => f k - g k) n = fb_si f n - fb_si g n
  | 0 => rfl
  | n + 1 => by
    have h := fb_si_sub f g n
    rw [fb_si_succ, fb_si_succ, fb_si_succ, h]
    omega
theorem fb_si_mul (c : Int) (f : Nat → Int) : ∀ n, fb_si (fun k => c * f k) n = c * fb_si f n
  | 0 => (Int.mul_zero c).symm
  | n + 1 => by
    have h := fb_si_mul c f n
    rw [fb_si_succ, fb_si_succ, h, Int.mul_add]
theorem fb_si_split (f : Nat → Int) (m : Nat) : ∀ n, fb_si f (m + n) = fb_si f m + fb_si (fun k => f (m + k)) n
  | 0 => (Int.add_zero _).symm
  | n + 1 => by
    have h := fb_si_split f m n
    show fb_si f (m + n + 1) = _
    rw [fb_si_succ, fb_si_succ, h, Int.add_assoc]
theorem fb_si_nat (f : Nat → Nat) : ∀ n, fb_si (fun k => (f k : Int)) n = (fb_sm f n : Int)
  | 0 => rfl
  | n + 1 => by
    have h := fb_si_nat f n
    rw [fb_si_succ, fb_sm_succ, h]
    omega
theorem fb_si_bound {f : Nat → Int} {c : Int} (hc : 0 ≤ c) : ∀ {n : Nat}, (∀ k, k < n → -c ≤ f k ∧ f k ≤ c) → -(n * c) ≤ fb_si f n ∧ fb_si f n ≤ n * c
  | 0, _ => by simp [fb_si]
  | n + 1, h => by
    have h1 := fb_si_bound (n := n) (f := f) hc (fun k hk => h k (by omega))
    have h2 := h n (by omega)
    have e : ((n + 1 : Nat) : Int) * c = n * c + c := by rw [Int.natCast_add, Int.add_mul]; simp
    rw [fb_si_succ, e]
    omega
/-! ===== bits of a long that isn't negative ===== -/
theorem fb_andL (a b : Nat) : lN a &&& lN b = lN (a &&& b) := by
  apply Int64.toBitVec_inj.1
  show BitVec.ofNat 64 a &&& BitVec.ofNat 64 b = BitVec.ofNat 64 (a &&& b)
  apply BitVec.eq_of_getLsbD_eq
  intro i hi
  simp [hi]
theorem fb_orL (a b : Nat) : lN a ||| lN b = lN (a ||| b) := by
  apply Int64.toBitVec_inj.1
  show BitVec.ofNat 64 a ||| BitVec.ofNat 64 b = BitVec.ofNat 64 (a ||| b)
  apply BitVec.eq_of_getLsbD_eq
  intro i hi
  simp [hi]
theorem fb_xorL (a b : Nat) : lN a ^^^ lN b = lN (a ^^^ b) := by
  apply Int64.toBitVec_inj.1
  show BitVec.ofNat 64 a ^^^ BitVec.ofNat 64 b = BitVec.ofNat 64 (a ^^^ b)
  apply BitVec.eq_of_getLsbD_eq
  intro i hi
  simp [hi]
theorem fb_xorI (a b : Nat) : nI a ^^^ nI b = nI (a ^^^ b) := by
  apply Int32.toBitVec_inj.1
  show BitVec.ofNat 32 a ^^^ BitVec.ofNat 32 b = BitVec.ofNat 32 (a ^^^ b)
  apply BitVec.eq_of_getLsbD_eq
  intro i hi
  simp [hi]
theorem fb_maskL (n k : Nat) : lN n &&& lN (2 ^ k - 1) = lN (n % 2 ^ k) := by rw [fb_andL, Nat.and_two_pow_sub_one_eq_mod]
theorem fb_or_sumL {a k : Nat} (b : Nat) (h : a < 2 ^ k) : lN (2 ^ k * b) ||| lN a = lN (2 ^ k * b + a) := by rw [fb_orL, Nat.two_pow_add_eq_or_of_lt h]
theorem fb_lN_inj {a b : Nat} (ha : a < 2 ^ 63) (hb : b < 2 ^ 63) : lN a = lN b ↔ a = b := by
  constructor
  · intro h
    have h1 : (BitVec.ofNat 64 a).toNat = (BitVec.ofNat 64 b).toNat := congrArg (fun x : Int64 => x.toBitVec.toNat) h
    rw [BitVec.toNat_ofNat, BitVec.toNat_ofNat, Nat.mod_eq_of_lt (by omega), Nat.mod_eq_of_lt (by omega)] at h1
    exact h1
  · rintro rfl; rfl
theorem fb_bit_nat (n j : Nat) : n &&& 2 ^ j = 0 ↔ n.testBit j = false := by
  constructor
  · intro h
    have h1 : (n &&& 2 ^ j).testBit j = false := by rw [h]; simp
    rw [Nat.testBit_and] at h1
    simpa using h1
  · intro h
    apply Nat.eq_of_testBit_eq
    intro i
    rw [Nat.testBit_and]
    by_cases hi : j = i
    · subst hi; simp [h]
    · first | (simp [Nat.testBit_two_pow, hi]; done) | (simp [Nat.testBit_two_pow_of_ne hi]; done)
/-- one bit of a long -/
theorem fb_bitL {n j : Nat} (hj : j < 63) : lN n &&& lN (2 ^ j) = 0 ↔ n.testBit j = false := by
  have h2 : (2 : Nat) ^ j < 2 ^ 63 := Nat.pow_lt_pow_right (by decide) hj
  have hle : n &&& 2 ^ j ≤ 2 ^ j := Nat.and_le_right
  rw [fb_andL, ← fb_bit_nat, show (0 : Int64) = lN 0 from rfl]
  exact fb_lN_inj (by omega) (by decide)
/-- a bit set, a bit taken off -/
theorem fb_bit_set (n j i : Nat) : (n ||| 2 ^ j).testBit i = (n.testBit i || decide (i = j)) := by
  rw [Nat.testBit_or]
  by_cases h : j = i
  · subst h; simp
  · have h2 : ¬ i = j := fun e => h e.symm
    first | (simp [Nat.testBit_two_pow, h, h2]; done) | (simp [Nat.testBit_two_pow_of_ne h, h2]; done)
theorem fb_bit_flip (n j i : Nat) : (n ^^^ 2 ^ j).testBit i = (n.testBit i ^^ decide (i = j)) := by
  rw [Nat.testBit_xor]
  by_cases h : j = i
  · subst h; simp
  · have h2 : ¬ i = j := fun e => h e.symm
    first | (simp [Nat.testBit_two_pow, h, h2]; done) | (simp [Nat.testBit_two_pow_of_ne h, h2]; done)
/-! ===== a stretch of an array written over by a function ===== -/
def fb_put {α : Type} (f g : Nat → α) (a n : Nat) : Nat → α := fun k => if a ≤ k ∧ k < a + n then g (k - a) else f k
theorem fb_put_0 {α : Type} (f g : Nat → α) (a : Nat) : fb_put f g a 0 = f := funext fun k => if_neg (by omega)
theorem fb_put_in {α : Type} {f g : Nat → α} {a n k : Nat} (h1 : a ≤ k) (h2 : k < a + n) : fb_put f g a n k = g (k - a) := if_pos ⟨h1, h2⟩
theorem fb_put_out {α : Type} {f g : Nat → α} {a n k : Nat} (h : k < a ∨ a + n ≤ k) : fb_put f g a n k = f k := if_neg (by omega)
theorem fb_put_succ (f g : Nat → Int32) (a n : Nat) : upd (fb_put f g a n) (a + n) (g n) = fb_put f g a (n + 1) := by
  funext k
  by_cases h : k = a + n
  · subst h
    simp [upd, fb_put]
  · by_cases h1 : a ≤ k ∧ k < a + n
    · have h2 : a ≤ k ∧ k < a + (n + 1) := by omega
      simp only [upd, fb_put, if_neg h, if_pos h1, if_pos h2]
    · have h2 : ¬ (a ≤ k ∧ k < a + (n + 1)) := by omega
      simp only [upd, fb_put, if_neg h, if_neg h1, if_neg h2]
/-- .. from the far end down -/
theorem fb_put_down (f g : Nat → Int32) {a n m : Nat} (h : m < n) : upd (fb_put f (fun k => g (k + (m + 1))) (a + (m + 1)) (n - (m + 1))) (a + m) (g m) = fb_put f (fun k => g (k + m)) (a + m) (n - m) := by
  funext k
  by_cases h0 : k = a + m
  · subst h0
    simp only [upd, if_true]
    rw [fb_put_in (by omega) (by omega)]
    exact congrArg g (by omega)
  · simp only [upd, if_neg h0]
    by_cases h1 : a + (m + 1) ≤ k ∧ k < a + (m + 1) + (n - (m + 1))
    · rw [fb_put_in h1.1 h1.2, fb_put_in (by omega) (by omega)]
      exact congrArg g (by omega)
    · rw [fb_put_out (by omega), fb_put_out (by omega)]
theorem fb_put_cong {α : Type} {f f2 g g2 : Nat → α} {a n : Nat} (hf : ∀ k, (k < a ∨ a + n ≤ k) → f k = f2 k) (hg : ∀ k, k < n → g k = g2 k) : fb_put f g a n = fb_put f2 g2 a n := by
  funext k
  by_cases h : a ≤ k ∧ k < a + n
  · rw [fb_put_in h.1 h.2, fb_put_in h.1 h.2, hg _ (by omega)]
  · rw [fb_put_out (by omega), fb_put_out (by omega), hf _ (by omega)]
/-! ===== the least, the first, the best so far; that there is one alone ===== -/
theorem fb_first {p : Nat → Prop} [DecidablePred p] : ∀ {n : Nat}, (∃ i, i < n ∧ p i) → ∃ i, i < n ∧ p i ∧ ∀ j, j < i → ¬ p j
  | 0, h => by obtain ⟨i, hi, -⟩ := h; exact absurd hi (Nat.not_lt_zero i)
  | n + 1, h => by
    by_cases q : ∃ i, i < n ∧ p i
    · obtain ⟨i, h1, h2⟩ := fb_first q
      exact ⟨i, by omega, h2⟩
    · obtain ⟨i, h1, h2⟩ := h
      have e : i = n := by
        rcases Nat.lt_or_ge i n with r | r
        · exact absurd ⟨i, r, h2⟩ q
        · omega
      subst e
      exact ⟨i, by omega, h2, fun j hj hp => q ⟨j, hj, hp⟩⟩
theorem fb_first_one {p : Nat → Prop} {i j : Nat} (hi : p i) (hi2 : ∀ k, k < i → ¬ p k) (hj : p j) (hj2 : ∀ k, k < j → ¬ p k) : i = j := by
  rcases Nat.lt_trichotomy i j with q | q | q
  · exact absurd hi (hj2 i q)
  · exact q
  · exact absurd hj (hi2 j q)
theorem fb_last {p : Nat → Prop} [DecidablePred p] : ∀ {n : Nat}, (∃ i, i < n ∧ p i) → ∃ i, i < n ∧ p i ∧ ∀ j, i < j → j < n → ¬ p j
  | 0, h => by obtain ⟨i, hi, -⟩ := h; exact absurd hi (Nat.not_lt_zero i)
  | n + 1, h => by
    by_cases q : p n
    · exact ⟨n, by omega, q, fun j h1 h2 => by omega⟩
    · obtain ⟨i, h1, h2⟩ := h
      have hi : i < n := by
        rcases Nat.lt_or_ge i n with r | r
        · exact r
        · have e : i = n := by omega
          subst e
          exact absurd h2 q
      obtain ⟨i2, a1, a2, a3⟩ := fb_last (n := n) ⟨i, hi, h2⟩
      refine ⟨i2, by omega, a2, fun j b1 b2 => ?_⟩
      rcases Nat.lt_or_ge j n with r | r
      · exact a3 j b1 r
      · have e : j = n := by omega
        subst e
        exact q
/-- the first greatest -/
theorem fb_best (f : Nat → Int) : ∀ {n : Nat}, 0 < n → ∃ i, i < n ∧ (∀ j, j < n → f j ≤ f i) ∧ ∀ j, j < i → f j < f i
  | 0, h => absurd h (Nat.lt_irrefl 0)
  | 1, _ => ⟨0, by omega, fun j hj => by have e : j = 0 := by omega
                                         subst e; exact Int.le_refl _, fun j hj => absurd hj (Nat.not_lt_zero j)⟩
  | n + 2, _ => by
    obtain ⟨i, h1, h2, h3⟩ := fb_best f (n := n + 1) (by omega)
    by_cases q : f i < f (n + 1)
    · refine ⟨n + 1, by omega, fun j hj => ?_, fun j hj => ?_⟩
      · rcases Nat.lt_or_ge j (n + 1) with r | r
        · have := h2 j r; omega
        · have e : j = n + 1 := by omega
          subst e; exact Int.le_refl _
      · have := h2 j hj; omega
    · refine ⟨i, by omega, fun j hj => ?_, h3⟩
      rcases Nat.lt_or_ge j (n + 1) with r | r
      · exact h2 j r
      · have e : j = n + 1 := by omega
        subst e; omega
theorem fb_best_one {f : Nat → Int} {n i j : Nat} (hi : i < n) (hi2 : ∀ k, k < n → f k ≤ f i) (hi3 : ∀ k, k < i → f k < f i) (hj : j < n) (hj2 : ∀ k, k < n → f k ≤ f j) (hj3 : ∀ k, k < j → f k < f j) : i = j := by
  rcases Nat.lt_trichotomy i j with q | q | q
  · have a := hj3 i q
    have b := hi2 j hj
    omega
  · exact q
  · have a := hi3 j q
    have b := hj2 i hi
    omega
/-- the first least -/
theorem fb_low (f : Nat → Int) {n : Nat} (h : 0 < n) : ∃ i, i < n ∧ (∀ j, j < n → f i ≤ f j) ∧ ∀ j, j < i → f i < f j := by
  obtain ⟨i, h1, h2, h3⟩ := fb_best (fun k => -f k) h
  exact ⟨i, h1, fun j hj => by have := h2 j hj; omega, fun j hj => by have := h3 j hj; omega⟩
/-! ===== signed ints as whole numbers, within bounds ===== -/
theorem fb_rng (x : Int32) : -2147483648 ≤ x.toInt ∧ x.toInt < 2147483648 := by
  have h1 := Int32.le_toInt x
  have h2 := Int32.toInt_lt x
  omega
theorem fb_bmod {z : Int} (h1 : -2147483648 ≤ z) (h2 : z < 2147483648) : z.bmod (2 ^ 32) = z := by
  rw [Int.bmod_eq_of_le (by omega) (by omega)]
theorem fb_addI {x y : Int32} (h1 : -2147483648 ≤ x.toInt + y.toInt) (h2 : x.toInt + y.toInt < 2147483648) : (x + y).toInt = x.toInt + y.toInt := by
  rw [Int32.toInt_add, fb_bmod h1 h2]
theorem fb_subI {x y : Int32} (h1 : -2147483648 ≤ x.toInt - y.toInt) (h2 : x.toInt - y.toInt < 2147483648) : (x - y).toInt = x.toInt - y.toInt := by
  rw [Int32.toInt_sub, fb_bmod h1 h2]
theorem fb_mulI {x y : Int32} (h1 : -2147483648 ≤ x.toInt * y.toInt) (h2 : x.toInt * y.toInt < 2147483648) : (x * y).toInt = x.toInt * y.toInt := by
  rw [Int32.toInt_mul, fb_bmod h1 h2]
theorem fb_negI {x : Int32} (h : x.toInt ≠ -2147483648) : (-x).toInt = -x.toInt := by
  have := fb_rng x
  rw [Int32.toInt_neg, fb_bmod (by omega) (by omega)]
theorem fb_ofI {z : Int} (h1 : -2147483648 ≤ z) (h2 : z < 2147483648) : (Int32.ofInt z).toInt = z := by
  rw [Int32.toInt_ofInt, fb_bmod h1 h2]
theorem fb_asI (x : Int32) : Int32.ofInt x.toInt = x := Int32.ofInt_toInt x
theorem fb_rngL (x : Int64) : -9223372036854775808 ≤ x.toInt ∧ x.toInt < 9223372036854775808 := by
  have h1 := Int64.le_toInt x
  have h2 := Int64.toInt_lt x
  omega
theorem fb_bmodL {z : Int} (h1 : -9223372036854775808 ≤ z) (h2 : z < 9223372036854775808) : z.bmod (2 ^ 64) = z := by
  rw [Int.bmod_eq_of_le (by omega) (by omega)]
theorem fb_addL {x y : Int64} (h1 : -9223372036854775808 ≤ x.toInt + y.toInt) (h2 : x.toInt + y.toInt < 9223372036854775808) : (x + y).toInt = x.toInt + y.toInt := by
  rw [Int64.toInt_add, fb_bmodL h1 h2]
theorem fb_subL {x y : Int64} (h1 : -9223372036854775808 ≤ x.toInt - y.toInt) (h2 : x.toInt - y.toInt < 9223372036854775808) : (x - y).toInt = x.toInt - y.toInt := by
  rw [Int64.toInt_sub, fb_bmodL h1 h2]
theorem fb_mulL {x y : Int64} (h1 : -9223372036854775808 ≤ x.toInt * y.toInt) (h2 : x.toInt * y.toInt < 9223372036854775808) : (x * y).toInt = x.toInt * y.toInt := by
  rw [Int64.toInt_mul, fb_bmodL h1 h2]
/-! ===== cuts of what is narrow already ===== -/
theorem fb_byte {x : Int32} (h1 : -128 ≤ x.toInt) (h2 : x.toInt < 128) : x.toInt8.toInt32 = x := by
  apply Int32.toInt_inj.1
  rw [Int8.toInt_toInt32, Int32.toInt_toInt8, Int.bmod_eq_of_le (by omega) (by omega)]
theorem fb_short {x : Int32} (h1 : -32768 ≤ x.toInt) (h2 : x.toInt < 32768) : x.toInt16.toInt32 = x := by
  apply Int32.toInt_inj.1
  rw [Int16.toInt_toInt32, Int32.toInt_toInt16, Int.bmod_eq_of_le (by omega) (by omega)]
theorem fb_byte_rng (x : Int32) : -128 ≤ x.toInt8.toInt32.toInt ∧ x.toInt8.toInt32.toInt < 128 := by
  rw [Int8.toInt_toInt32]
  have h1 := Int8.le_toInt x.toInt8
  have h2 := Int8.toInt_lt x.toInt8
  omega
theorem fb_short_rng (x : Int32) : -32768 ≤ x.toInt16.toInt32.toInt ∧ x.toInt16.toInt32.toInt < 32768 := by
  rw [Int16.toInt_toInt32]
  have h1 := Int16.le_toInt x.toInt16
  have h2 := Int16.toInt_lt x.toInt16
  omega
theorem fb_byte_twice (x : Int32) : x.toInt8.toInt32.toInt8.toInt32 = x.toInt8.toInt32 := fb_byte (fb_byte_rng x).1 (fb_byte_rng x).2
theorem fb_short_twice (x : Int32) : x.toInt16.toInt32.toInt16.toInt32 = x.toInt16.toInt32 := fb_short (fb_short_rng x).1 (fb_short_rng x).2
theorem fb_char {n : Nat} (h : n < 65536) : (nI n).toUInt32.toUInt16.toUInt32.toInt32 = nI n := by
  apply Int32.toBitVec_inj.1
  apply BitVec.eq_of_toNat_eq
  have e1 : (nI n).toBitVec.toNat = n := by
    show (BitVec.ofNat 32 n).toNat = n
    rw [BitVec.toNat_ofNat, Nat.mod_eq_of_lt (by omega)]
  have e2 : ((nI n).toUInt32.toUInt16.toUInt32).toNat = n := by
    rw [UInt16.toNat_toUInt32, UInt32.toNat_toUInt16]
    show (nI n).toBitVec.toNat % 2 ^ 16 = n
    rw [e1, Nat.mod_eq_of_lt (by omega)]
  rw [e1]
  exact e2
end
section
/-! plain facts on numbers and arrays, to paste: each family by itself; over the kit's rows on nI and upd -/
/-! ===== order of ints, in all its forms, and through longs ===== -/
theorem fa_lt (a b : Int32) : a < b ↔ a.toInt < b.toInt := Int32.lt_iff_toInt_lt
theorem fa_le (a b : Int32) : a ≤ b ↔ a.toInt ≤ b.toInt := Int32.le_iff_toInt_le
theorem fa_eq (a b : Int32) : a = b ↔ a.toInt = b.toInt := Int32.toInt_inj.symm
theorem fa_lt64 (a b : Int64) : a < b ↔ a.toInt < b.toInt := Int64.lt_iff_toInt_lt
theorem fa_le64 (a b : Int64) : a ≤ b ↔ a.toInt ≤ b.toInt := Int64.le_iff_toInt_le
theorem fa_eq64 (a b : Int64) : a = b ↔ a.toInt = b.toInt := Int64.toInt_inj.symm
/-- a comparison of two ints taken as longs -/
theorem fa_wide_lt (a b : Int32) : a.toInt64 < b.toInt64 ↔ a < b := by rw [fa_lt64, fa_lt, Int32.toInt_toInt64, Int32.toInt_toInt64]
theorem fa_wide_le (a b : Int32) : a.toInt64 ≤ b.toInt64 ↔ a ≤ b := by rw [fa_le64, fa_le, Int32.toInt_toInt64, Int32.toInt_toInt64]
theorem fa_wide_eq (a b : Int32) : a.toInt64 = b.toInt64 ↔ a = b := by rw [fa_eq64, fa_eq, Int32.toInt_toInt64, Int32.toInt_toInt64]
/-- one strict comparison gives all the others -/
theorem fa_of_lt {a b : Int32} (h : a < b) : a ≤ b ∧ ¬ b ≤ a ∧ ¬ b < a ∧ a ≠ b ∧ b ≠ a := by
  rw [fa_lt] at h
  refine ⟨?_, ?_, ?_, ?_, ?_⟩
  · rw [fa_le]; omega
  · rw [fa_le]; omega
  · rw [fa_lt]; omega
  · intro e; rw [fa_eq] at e; omega
  · intro e; rw [fa_eq] at e; omega
theorem fa_of_nlt {a b : Int32} (h : ¬ a < b) : b ≤ a := by
  rw [fa_lt] at h
  rw [fa_le]
  omega
theorem fa_of_nle {a b : Int32} (h : ¬ a ≤ b) : b < a := by
  rw [fa_le] at h
  rw [fa_lt]
  omega
theorem fa_le_ne {a b : Int32} (h : a ≤ b) (h2 : a ≠ b) : a < b := by
  rw [fa_le] at h
  rw [fa_lt]
  have h3 : a.toInt ≠ b.toInt := fun e => h2 ((fa_eq a b).mpr e)
  omega
theorem fa_three (a b : Int32) : a < b ∨ a = b ∨ b < a := by
  rw [fa_lt, fa_lt, fa_eq]
  omega
theorem fa_trans {a b c : Int32} (h : a < b) (h2 : b ≤ c) : a < c := by
  rw [fa_lt] at *
  rw [fa_le] at h2
  omega
/-! ===== small literals as numbers ===== -/
theorem fa_lit (n : Nat) : (OfNat.ofNat n : Int32) = nI n := rfl
theorem fa_litL (n : Nat) : (OfNat.ofNat n : Int64) = lN n := rfl
/-! ===== bits of a number: 'or', masks, one bit ===== -/
theorem fa_and (a b : Nat) : nI a &&& nI b = nI (a &&& b) := by
  apply Int32.toBitVec_inj.1
  show BitVec.ofNat 32 a &&& BitVec.ofNat 32 b = BitVec.ofNat 32 (a &&& b)
  apply BitVec.eq_of_getLsbD_eq
  intro i hi
  simp [hi]
theorem fa_or (a b : Nat) : nI a ||| nI b = nI (a ||| b) := by
  apply Int32.toBitVec_inj.1
  show BitVec.ofNat 32 a ||| BitVec.ofNat 32 b = BitVec.ofNat 32 (a ||| b)
  apply BitVec.eq_of_getLsbD_eq
  intro i hi
  simp [hi]
/-- a remainder by a power of two, as a mask -/
theorem fa_mask (n k : Nat) : nI n &&& nI (2 ^ k - 1) = nI (n % 2 ^ k) := by rw [fa_and, Nat.and_two_pow_sub_one_eq_mod]
/-- 'or' of a high part and a low one that don't meet is their sum -/
theorem fa_or_sum {a k : Nat} (b : Nat) (h : a < 2 ^ k) : nI (2 ^ k * b) ||| nI a = nI (2 ^ k * b + a) := by rw [fa_or, Nat.two_pow_add_eq_or_of_lt h]
/-- one bit, by 'and' with a power of two -/
theorem fa_bit {n j : Nat} (hj : j < 31) : nI n &&& nI (2 ^ j) = 0 ↔ n.testBit j = false := by
  have h2 : (2 : Nat) ^ j < 2 ^ 31 := Nat.pow_lt_pow_right (by decide) hj
  have hle : n &&& 2 ^ j ≤ 2 ^ j := Nat.and_le_right
  have e : n &&& 2 ^ j = 0 ↔ n.testBit j = false := by
    constructor
    · intro h
      have h1 : (n &&& 2 ^ j).testBit j = false := by rw [h]; simp
      rw [Nat.testBit_and] at h1
      first | simpa using h1 | simpa [Nat.testBit_two_pow_self] using h1 | simpa [Nat.testBit_two_pow] using h1
    · intro h
      apply Nat.eq_of_testBit_eq
      intro i
      rw [Nat.testBit_and]
      by_cases hi : j = i
      · subst hi; simp [h]
      · first | (simp [Nat.testBit_two_pow, hi]; done) | (simp [Nat.testBit_two_pow_of_ne hi]; done)
  rw [fa_and]
  constructor
  · intro h
    apply e.mp
    rcases Nat.eq_zero_or_pos (n &&& 2 ^ j) with z | z
    · exact z
    · exact absurd h (nI_ne0 z (Nat.lt_of_le_of_lt hle h2))
  · intro h
    rw [e.mpr h]; exact nI_0
/-- a remainder by a power of two of a number that isn't negative, as Java divides -/
theorem fa_rem {a k : Nat} (ha : a < 2 ^ 31) (hk : k < 31) : nI a - nI a / nI (2 ^ k) * nI (2 ^ k) = nI (a % 2 ^ k) := pk_rem ha (Nat.two_pow_pos k) (Nat.pow_lt_pow_right (by decide) hk)
/-! ===== cuts to a byte, a short ===== -/
theorem fa_byte_xor (x y : Int32) : (x ^^^ y).toInt8 = x.toInt8 ^^^ y.toInt8 := by
  apply Int8.toBitVec_inj.1
  apply BitVec.eq_of_getLsbD_eq
  intro i hi
  first | (simp [hi]; done) | (simp [hi, BitVec.getLsbD_setWidth, BitVec.getLsbD_signExtend]; done)
theorem fa_short_xor (x y : Int32) : (x ^^^ y).toInt16 = x.toInt16 ^^^ y.toInt16 := by
  apply Int16.toBitVec_inj.1
  apply BitVec.eq_of_getLsbD_eq
  intro i hi
  first | (simp [hi]; done) | (simp [hi, BitVec.getLsbD_setWidth, BitVec.getLsbD_signExtend]; done)
/-- the cut to a byte sees the low byte alone -/
theorem fa_byte_low (x : Int32) : (x &&& 255).toInt8 = x.toInt8 := by
  apply Int8.toBitVec_inj.1
  apply BitVec.eq_of_getLsbD_eq
  intro i hi
  have h2 : (255 : Int32).toBitVec.getLsbD i = true := by
    have : ∀ j : Fin 8, (255 : Int32).toBitVec.getLsbD j.val = true := by decide +kernel
    exact this ⟨i, hi⟩
  have h4 : (x &&& 255).toBitVec.getLsbD i = x.toBitVec.getLsbD i := by
    show (x.toBitVec &&& (255 : Int32).toBitVec).getLsbD i = _
    rw [BitVec.getLsbD_and, h2, Bool.and_true]
  have h3 : i < 32 := by omega
  first
    | (show (((x &&& 255).toBitVec).signExtend 8).getLsbD i = (x.toBitVec.signExtend 8).getLsbD i; rw [BitVec.getLsbD_signExtend, BitVec.getLsbD_signExtend, if_pos h3, if_pos h3, h4])
    | (show (((x &&& 255).toBitVec).setWidth 8).getLsbD i = (x.toBitVec.setWidth 8).getLsbD i; rw [BitVec.getLsbD_setWidth, BitVec.getLsbD_setWidth, h4])
    | (simp [hi, h3, h4]; done)
theorem fa_short_low (x : Int32) : (x &&& 65535).toInt16 = x.toInt16 := by
  apply Int16.toBitVec_inj.1
  apply BitVec.eq_of_getLsbD_eq
  intro i hi
  have h2 : (65535 : Int32).toBitVec.getLsbD i = true := by
    have : ∀ j : Fin 16, (65535 : Int32).toBitVec.getLsbD j.val = true := by decide +kernel
    exact this ⟨i, hi⟩
  have h4 : (x &&& 65535).toBitVec.getLsbD i = x.toBitVec.getLsbD i := by
    show (x.toBitVec &&& (65535 : Int32).toBitVec).getLsbD i = _
    rw [BitVec.getLsbD_and, h2, Bool.and_true]
  have h3 : i < 32 := by omega
  first
    | (show (((x &&& 65535).toBitVec).signExtend 16).getLsbD i = (x.toBitVec.signExtend 16).getLsbD i; rw [BitVec.getLsbD_signExtend, BitVec.getLsbD_signExtend, if_pos h3, if_pos h3, h4])
    | (show (((x &&& 65535).toBitVec).setWidth 16).getLsbD i = (x.toBitVec.setWidth 16).getLsbD i; rw [BitVec.getLsbD_setWidth, BitVec.getLsbD_setWidth, h4])
    | (simp [hi, h3, h4]; done)
/-- a small number is its own byte, its own short -/
theorem fa_byte_small {n : Nat} (h : n < 128) : (nI n).toInt8.toInt32 = nI n := by
  have : ∀ j : Fin 128, (nI j.val).toInt8.toInt32 = nI j.val := by decide +kernel
  exact this ⟨n, h⟩
/-! ===== absolute difference ===== -/
theorem fa_absdiff {a b : Nat} (ha : a < 2 ^ 31) (hb : b < 2 ^ 31) : (if nI a < nI b then nI b - nI a else nI a - nI b) = nI (if a < b then b - a else a - b) := by
  by_cases h : a < b
  · rw [if_pos (nI_lt h hb), if_pos h]
    exact pk_sub (Nat.le_of_lt h)
  · rw [if_neg (nI_nlt (Nat.le_of_not_lt h) ha), if_neg h]
    exact pk_sub (Nat.le_of_not_lt h)
/-! ===== an array behind i stores, a conditional store, a row copied ===== -/
/-- f where k < i, what stood there else -/
def fa_fill {α : Type} (f g : Nat → α) (i : Nat) : Nat → α := fun k => if k < i then f k else g k
theorem fa_fill_0 {α : Type} (f g : Nat → α) : fa_fill f g 0 = g := funext fun k => if_neg (Nat.not_lt_zero k)
theorem fa_fill_in {α : Type} {f g : Nat → α} {i k : Nat} (h : k < i) : fa_fill f g i k = f k := if_pos h
theorem fa_fill_out {α : Type} {f g : Nat → α} {i k : Nat} (h : i ≤ k) : fa_fill f g i k = g k := if_neg (Nat.not_lt.mpr h)
theorem fa_fill_succ (f g : Nat → Int32) (i : Nat) : upd (fa_fill f g i) i (f i) = fa_fill f g (i + 1) := by
  funext k
  by_cases e : k = i
  · subst e
    rw [pk_us]
    exact (if_pos (Nat.lt_succ_self k)).symm
  · rw [pk_un e]
    by_cases h : k < i
    · rw [fa_fill_in h, fa_fill_in (Nat.lt_succ_of_lt h)]
    · rw [fa_fill_out (Nat.le_of_not_lt h), fa_fill_out (by omega)]
/-- a store that changes nothing -/
theorem fa_upd_same {f : Nat → Int32} {i : Nat} {x : Int32} (h : f i = x) : upd f i x = f := by
  funext k
  by_cases e : k = i
  · subst e
    rw [pk_us, h]
  · rw [pk_un e]
/-- a store under a condition, told as one -/
theorem fa_upd_if (c : Prop) [Decidable c] (f : Nat → Int32) (i : Nat) (x : Int32) : (if c then upd f i x else f) = upd f i (if c then x else f i) := by
  by_cases h : c
  · rw [if_pos h, if_pos h]
  · rw [if_neg h, if_neg h, fa_upd_same rfl]
/-- two stores at one place, at two -/
theorem fa_upd_twice (f : Nat → Int32) (i : Nat) (x y : Int32) : upd (upd f i x) i y = upd f i y := by
  funext k
  by_cases e : k = i
  · subst e
    rw [pk_us, pk_us]
  · rw [pk_un e, pk_un e, pk_un e]
theorem fa_upd_swap (f : Nat → Int32) {i j : Nat} (h : i ≠ j) (x y : Int32) : upd (upd f i x) j y = upd (upd f j y) i x := by
  funext k
  by_cases e : k = i
  · subst e
    rw [pk_un h, pk_us, pk_us]
  · by_cases e2 : k = j
    · subst e2
      rw [pk_us, pk_un e, pk_us]
    · rw [pk_un e2, pk_un e, pk_un e, pk_un e2]
/-! ===== the first index with a property; a count ===== -/
/-- the first k < n with p k, n if there is none -/
def fa_first (p : Nat → Bool) : Nat → Nat
  | 0 => 0
  | n + 1 => if fa_first p n < n then fa_first p n else if p n then n else n + 1
theorem fa_first_le (p : Nat → Bool) : ∀ n, fa_first p n ≤ n
  | 0 => Nat.le_refl 0
  | n + 1 => by
    have ih := fa_first_le p n
    unfold fa_first
    split
    · omega
    · split
      · omega
      · omega
theorem fa_first_no (p : Nat → Bool) : ∀ n k, k < fa_first p n → p k = false
  | 0, k, h => absurd h (Nat.not_lt_zero k)
  | n + 1, k, h => by
    have ih := fa_first_no p n
    have hl := fa_first_le p n
    unfold fa_first at h
    split at h
    · exact ih k h
    · rename_i h1
      split at h
      · exact ih k (by omega)
      · rename_i h2
        by_cases e : k = n
        · subst e
          exact Bool.eq_false_iff.mpr h2
        · exact ih k (by omega)
theorem fa_first_yes (p : Nat → Bool) : ∀ n, fa_first p n < n → p (fa_first p n) = true
  | 0, h => absurd h (Nat.not_lt_zero _)
  | n + 1, h => by
    have ih := fa_first_yes p n
    have hl := fa_first_le p n
    unfold fa_first at h ⊢
    split at h
    · rename_i h1
      rw [if_pos h1]
      exact ih h1
    · rename_i h1
      rw [if_neg h1]
      split at h
      · rename_i h2
        rw [if_pos h2]
        exact h2
      · omega
/-- how many k < n have p k -/
def fa_cnt (p : Nat → Bool) : Nat → Nat
  | 0 => 0
  | n + 1 => fa_cnt p n + if p n then 1 else 0
theorem fa_cnt_le (p : Nat → Bool) : ∀ n, fa_cnt p n ≤ n
  | 0 => Nat.le_refl 0
  | n + 1 => by
    have ih := fa_cnt_le p n
    unfold fa_cnt
    split
    · omega
    · omega
theorem fa_cnt_yes {p : Nat → Bool} {n : Nat} (h : p n = true) : fa_cnt p (n + 1) = fa_cnt p n + 1 := by rw [fa_cnt, if_pos h]
theorem fa_cnt_no {p : Nat → Bool} {n : Nat} (h : p n = false) : fa_cnt p (n + 1) = fa_cnt p n := by rw [fa_cnt, if_neg (by rw [h]; decide)]; rfl
theorem fa_cnt_cong {p q : Nat → Bool} : ∀ {n : Nat}, (∀ k, k < n → p k = q k) → fa_cnt p n = fa_cnt q n
  | 0, _ => rfl
  | n + 1, h => by rw [fa_cnt, fa_cnt, fa_cnt_cong (fun k hk => h k (Nat.lt_succ_of_lt hk)), h n (Nat.lt_succ_self n)]
/-! ===== an answer carried into a post; a branch on a boolean answer ===== -/
theorem fa_post {α : Type} {P : α → Prop} {x y : α} (h : x = y) (hp : P y) : P x := h ▸ hp
theorem fa_post2 {α β : Type} {P : α → β → Prop} {x y : α} {u v : β} (h : x = y) (h2 : u = v) (hp : P y v) : P x u := h ▸ h2 ▸ hp
theorem fa_bool {r : Int32} {b : Bool} (h : r = if b then 1 else 0) : (r = 0 ↔ b = false) ∧ (¬ r = 0 ↔ b = true) := by
  subst h
  cases b
  · exact ⟨⟨fun _ => rfl, fun _ => rfl⟩, ⟨fun h => absurd rfl h, fun h => absurd h (by decide)⟩⟩
  · exact ⟨⟨fun h => absurd h (by decide), fun h => absurd h (by decide)⟩, ⟨fun _ => rfl, fun _ => by decide⟩⟩
/-- a boolean's narrowing changes nothing -/
theorem fa_bool_and {r : Int32} (h : r = 0 ∨ r = 1) : r &&& 1 = r := by
  rcases h with rfl | rfl
  · decide
  · decide
theorem fa_bool_prop {c : Prop} [Decidable c] {r : Int32} (h : r = if c then 1 else 0) : (r = 0 ↔ ¬ c) ∧ (¬ r = 0 ↔ c) := by
  subst h
  by_cases hc : c
  · rw [if_pos hc]
    exact ⟨⟨fun h => absurd h (by decide), fun h => absurd hc h⟩, ⟨fun _ => hc, fun _ => by decide⟩⟩
  · rw [if_neg hc]
    exact ⟨⟨fun _ => hc, fun _ => rfl⟩, ⟨fun h => absurd rfl h, fun h => absurd h hc⟩⟩
end
section
/-! paths, fragments of the automaton -/
theorem up_n {α : Type} {f : Nat → α} {k j : Nat} {v : α} (h : j ≠ k) : va_up f k v j = f j := va_up_ne f v h
theorem up_s {α : Type} {f : Nat → α} {k : Nat} {v : α} : va_up f k v k = v := va_up_self f k v
noncomputable def mn (P : Nat → Prop) : Nat := @dite _ (∃ d, P d) (Classical.propDecidable _) (fun h => Classical.choose (pk_least P h) + 1) (fun _ => 0)
theorem mn_none {P : Nat → Prop} (h : ∀ d, ¬ P d) : mn P = 0 := by
  unfold mn
  rw [dif_neg (fun ⟨d, hd⟩ => h d hd)]
theorem mn_some {P : Nat → Prop} (h : ∃ d, P d) : ∃ d, mn P = d + 1 ∧ P d ∧ ∀ j, P j → d ≤ j := by
  refine ⟨Classical.choose (pk_least P h), ?_, (Classical.choose_spec (pk_least P h)).1, fun j hj => ?_⟩
  · unfold mn
    rw [dif_pos h]
  · rcases Nat.lt_or_ge j (Classical.choose (pk_least P h)) with q | q
    · exact absurd hj ((Classical.choose_spec (pk_least P h)).2 j q)
    · exact q
theorem mn_zero {P : Nat → Prop} : mn P = 0 ↔ ∀ d, ¬ P d := by
  constructor
  · intro h d hd
    obtain ⟨x, e, -⟩ := mn_some ⟨d, hd⟩
    omega
  · exact mn_none
theorem mn_succ {P : Nat → Prop} {d : Nat} : mn P = d + 1 ↔ P d ∧ ∀ j, P j → d ≤ j := by
  constructor
  · intro h
    have hx : ∃ d, P d := Classical.byContradiction fun q => by
      have := mn_none (P := P) (fun d hd => q ⟨d, hd⟩)
      omega
    obtain ⟨x, e, h1, h2⟩ := mn_some hx
    have : x = d := by omega
    subst this
    exact ⟨h1, h2⟩
  · intro ⟨h1, h2⟩
    obtain ⟨x, e, h3, h4⟩ := mn_some ⟨d, h1⟩
    have a1 := h2 x h3
    have a2 := h4 d h1
    omega
theorem mn_le {P : Nat → Prop} {d : Nat} (h : P d) : mn P ≤ d + 1 ∧ mn P ≠ 0 := by
  obtain ⟨x, e, h3, h4⟩ := mn_some ⟨d, h⟩
  have a2 := h4 d h
  omega
theorem mn_eq {P Q : Nat → Prop} (h : ∀ d, P d ↔ Q d) : mn P = mn Q := by
  have : P = Q := funext fun d => propext (h d)
  rw [this]
abbrev GR : Type := Nat → Nat → Nat → Prop
abbrev MR : Type := Nat → Nat → Nat → Prop
abbrev Ex : Type := GR → Nat → Nat → Nat → Prop
def Sk (G : GR) (k a w b : Nat) : Prop := (k = 6 ∧ b = a ∧ w = 0) ∨ (k = 7 + a ∧ b = a ∧ w = 0) ∨ (k < 3 ∧ G k a b ∧ w = 1) ∨ (3 ≤ k ∧ k < 6 ∧ G (k - 3) b a ∧ w = 1)
theorem Sk6 {G : GR} {a w b : Nat} (h : Sk G 6 a w b) : b = a ∧ w = 0 := by
  rcases h with h | h | h | h
  · exact h.2
  · exact h.2
  · exact absurd h.1 (by omega)
  · exact absurd h.2.1 (by omega)
theorem Sk6i (G : GR) (a : Nat) : Sk G 6 a 0 a := Or.inl ⟨rfl, rfl, rfl⟩
theorem Sk_w {G : GR} {k a w b : Nat} (h : Sk G k a w b) : w ≤ 1 := by
  rcases h with h | h | h | h <;> omega
def GB (G : GR) : Prop := ∀ l a b, G l a b → a < 8 ∧ b < 8
theorem Sk_8 {G : GR} (hG : GB G) {k a w b : Nat} (h : Sk G k a w b) (ha : a < 8) : b < 8 := by
  rcases h with h | h | h | h
  · omega
  · omega
  · exact (hG _ _ _ h.2.1).2
  · exact (hG _ _ _ h.2.2.1).1
def Pa (G : GR) (M : MR) (s a d t b : Nat) : Prop := ∀ R : Nat → Nat → Nat → Prop, R s a 0 → (∀ u c d k v w b, R u c d → M k u v → Sk G k c w b → R v b (d + w)) → R t b d
theorem Pa.rf (G : GR) (M : MR) (s a : Nat) : Pa G M s a 0 s a := fun _ h _ => h
theorem Pa.step {G : GR} {M : MR} {s a d u c k v w b : Nat} (h : Pa G M s a d u c) (hm : M k u v) (hs : Sk G k c w b) : Pa G M s a (d + w) v b := fun R h0 hR => hR u c d k v w b (h R h0 hR) hm hs
theorem Pa.tr {G : GR} {M : MR} {s a d u c d2 t b : Nat} (h : Pa G M s a d u c) (h2 : Pa G M u c d2 t b) : Pa G M s a (d + d2) t b := by
  refine h2 (fun v b d2 => Pa G M s a (d + d2) v b) h ?_
  intro u c d2 k v w b h3 hm hs
  have := h3.step hm hs
  rw [Nat.add_assoc] at this
  exact this
theorem Pa.mono {G : GR} {M N : MR} (hM : ∀ k u v, M k u v → N k u v) {s a d t b : Nat} (h : Pa G M s a d t b) : Pa G N s a d t b :=
  h (fun t b d => Pa G N s a d t b) (Pa.rf G N s a) (fun _ _ _ _ _ _ _ h3 hm hs => h3.step (hM _ _ _ hm) hs)
theorem Pa.lt8 {G : GR} {M : MR} (hG : GB G) {s a d t b : Nat} (ha : a < 8) (h : Pa G M s a d t b) : b < 8 :=
  h (fun _ b _ => b < 8) ha (fun _ _ _ _ _ _ _ h3 _ hs => Sk_8 hG hs h3)
theorem Pa.dst {G : GR} {M : MR} {n s a d t b : Nat} (hM : ∀ k u v, M k u v → u < n ∧ v < n) (hs : s < n) (h : Pa G M s a d t b) : t < n :=
  h (fun t _ _ => t < n) hs (fun _ _ _ _ _ _ _ _ hm _ => (hM _ _ _ hm).2)
def ex1 (k : Nat) : Ex := fun G a d b => Sk G k a d b
def exS (E F : Ex) : Ex := fun G a d b => ∃ c d1 d2, E G a d1 c ∧ F G c d2 b ∧ d = d1 + d2
def exA (E F : Ex) : Ex := fun G a d b => E G a d b ∨ F G a d b
def exK (E : Ex) : Ex := fun G a d b => ∀ Z : Nat → Nat → Prop, Z a 0 → (∀ c d w b, Z c d → E G c w b → Z b (d + w)) → Z b d
theorem exK_rf (E : Ex) (G : GR) (a : Nat) : exK E G a 0 a := fun _ h _ => h
theorem exK_step {E : Ex} {G : GR} {a d c w b : Nat} (h : exK E G a d c) (h2 : E G c w b) : exK E G a (d + w) b := fun Z h0 hZ => hZ c d w b (h Z h0 hZ) h2
def addM (M : MR) (k0 u0 v0 : Nat) : MR := fun k u v => M k u v ∨ (k = k0 ∧ u = u0 ∧ v = v0)
theorem addM_l {M : MR} {k0 u0 v0 : Nat} : ∀ k u v, M k u v → addM M k0 u0 v0 k u v := fun _ _ _ h => Or.inl h
theorem addM_n (M : MR) (k0 u0 v0 : Nat) : addM M k0 u0 v0 k0 u0 v0 := Or.inr ⟨rfl, rfl, rfl⟩
def FI (M : MR) (lo hi s e : Nat) (E : Ex) : Prop :=
  (lo ≤ s ∧ s < hi) ∧ (lo ≤ e ∧ e < hi) ∧ (∀ k u v, M k u v → ((lo ≤ u ∧ u < hi) ↔ (lo ≤ v ∧ v < hi))) ∧ (∀ k u, ¬ M k u s) ∧ (∀ k v, ¬ M k e v) ∧ ∀ G a d b, Pa G M s a d e b ↔ E G a d b
theorem FI.out {M : MR} {lo hi s e : Nat} {E : Ex} (h : FI M lo hi s e E) {k0 u0 v0 : Nat} (hu : u0 < lo ∨ hi ≤ u0) (hv : v0 < lo ∨ hi ≤ v0) : FI (addM M k0 u0 v0) lo hi s e E := by
  obtain ⟨h1, h2, h3, h4, h5, h6⟩ := h
  refine ⟨h1, h2, ?_, ?_, ?_, ?_⟩
  · intro k u v hm
    rcases hm with hm | ⟨-, rfl, rfl⟩
    · exact h3 k u v hm
    · omega
  · intro k u hm
    rcases hm with hm | ⟨-, -, e1⟩
    · exact h4 k u hm
    · omega
  · intro k v hm
    rcases hm with hm | ⟨-, e1, -⟩
    · exact h5 k v hm
    · omega
  · intro G a d b
    rw [← h6 G a d b]
    constructor
    · intro hp
      have := hp (fun u c d => (lo ≤ u ∧ u < hi) ∧ Pa G M s a d u c) ⟨h1, Pa.rf G M s a⟩ (by
        intro u c d k v w b hR hm hs
        rcases hm with hm | ⟨-, e1, -⟩
        · exact ⟨(h3 k u v hm).mp hR.1, hR.2.step hm hs⟩
        · have := hR.1
          omega)
      exact this.2
    · exact Pa.mono addM_l
theorem FI.push {M : MR} {n : Nat} (hM : ∀ k u v, M k u v → u < n ∧ v < n) (k0 : Nat) : FI (addM M k0 n (n + 1)) n (n + 2) n (n + 1) (ex1 k0) := by
  refine ⟨by omega, by omega, ?_, ?_, ?_, ?_⟩
  · intro k u v hm
    rcases hm with hm | ⟨-, rfl, rfl⟩
    · have := hM k u v hm
      omega
    · omega
  · intro k u hm
    rcases hm with hm | ⟨-, -, e1⟩
    · have := hM k u n hm
      omega
    · omega
  · intro k v hm
    rcases hm with hm | ⟨-, e1, -⟩
    · have := hM k _ v hm
      omega
    · omega
  · intro G a d b
    constructor
    · intro hp
      have := hp (fun u c d => (u = n ∧ c = a ∧ d = 0) ∨ (u = n + 1 ∧ Sk G k0 a d c)) (Or.inl ⟨rfl, rfl, rfl⟩) (by
        intro u c d k v w b hR hm hs
        rcases hR with ⟨rfl, rfl, rfl⟩ | ⟨rfl, -⟩
        · rcases hm with hm | ⟨rfl, -, rfl⟩
          · have := hM k _ v hm
            omega
          · right
            rw [Nat.zero_add]
            exact ⟨rfl, hs⟩
        · rcases hm with hm | ⟨-, e1, -⟩
          · have := hM k _ v hm
            omega
          · omega)
      rcases this with ⟨e1, -⟩ | ⟨-, hs⟩
      · omega
      · exact hs
    · intro hs
      have := (Pa.rf G (addM M k0 n (n + 1)) n a).step (addM_n M k0 n (n + 1)) hs
      rw [Nat.zero_add] at this
      exact this
theorem FI.seq {M : MR} {lo mid hi s1 e1 s2 e2 : Nat} {E F : Ex} (h : FI M lo mid s1 e1 E) (g : FI M mid hi s2 e2 F) : FI (addM M 6 e1 s2) lo hi s1 e2 (exS E F) := by
  obtain ⟨h1, h2, h3, h4, h5, h6⟩ := h
  obtain ⟨g1, g2, g3, g4, g5, g6⟩ := g
  refine ⟨by omega, by omega, ?_, ?_, ?_, ?_⟩
  · intro k u v hm
    rcases hm with hm | ⟨-, rfl, rfl⟩
    · have a1 := h3 k u v hm
      have a2 := g3 k u v hm
      omega
    · omega
  · intro k u hm
    rcases hm with hm | ⟨-, -, e1⟩
    · exact h4 k u hm
    · omega
  · intro k v hm
    rcases hm with hm | ⟨-, e1, -⟩
    · exact g5 k v hm
    · omega
  · intro G a d b
    constructor
    · intro hp
      have := hp (fun u c d => ((lo ≤ u ∧ u < mid) ∧ Pa G M s1 a d u c) ∨ ((mid ≤ u ∧ u < hi) ∧ ∃ x d1 d2, E G a d1 x ∧ Pa G M s2 x d2 u c ∧ d = d1 + d2)) (Or.inl ⟨h1, Pa.rf G M s1 a⟩) (by
        intro u c d k v w b hR hm hs
        rcases hR with ⟨hu, hq⟩ | ⟨hu, x, d1, d2, hE, hq, hd⟩
        · rcases hm with hm | ⟨rfl, rfl, rfl⟩
          · exact Or.inl ⟨(h3 k u v hm).mp hu, hq.step hm hs⟩
          · obtain ⟨rfl, rfl⟩ := Sk6 hs
            exact Or.inr ⟨g1, b, d, 0, (h6 G a d b).mp hq, Pa.rf G M v b, rfl⟩
        · rcases hm with hm | ⟨-, e1, -⟩
          · exact Or.inr ⟨(g3 k u v hm).mp hu, x, d1, d2 + w, hE, hq.step hm hs, by omega⟩
          · omega)
      rcases this with ⟨hu, -⟩ | ⟨-, x, d1, d2, hE, hq, hd⟩
      · omega
      · exact ⟨x, d1, d2, hE, (g6 G x d2 b).mp hq, hd⟩
    · intro ⟨x, d1, d2, hE, hF, hd⟩
      have p1 := ((h6 G a d1 x).mpr hE).mono (addM_l (k0 := 6) (u0 := e1) (v0 := s2))
      have p2 := ((g6 G x d2 b).mpr hF).mono (addM_l (k0 := 6) (u0 := e1) (v0 := s2))
      have p3 := (p1.step (addM_n M 6 e1 s2) (Sk6i G x)).tr p2
      rw [hd]
      exact p3
def add4 (M : MR) (a b c d e f g h : Nat) : MR := addM (addM (addM (addM M 6 a b) 6 c d) 6 e f) 6 g h
theorem add4_of {M : MR} {a b c d e f g h k u v : Nat} (hm : add4 M a b c d e f g h k u v) : M k u v ∨ (k = 6 ∧ ((u = a ∧ v = b) ∨ (u = c ∧ v = d) ∨ (u = e ∧ v = f) ∨ (u = g ∧ v = h))) := by
  rcases hm with (((hm | hm) | hm) | hm) | hm
  · exact Or.inl hm
  · exact Or.inr ⟨hm.1, Or.inl hm.2⟩
  · exact Or.inr ⟨hm.1, Or.inr (Or.inl hm.2)⟩
  · exact Or.inr ⟨hm.1, Or.inr (Or.inr (Or.inl hm.2))⟩
  · exact Or.inr ⟨hm.1, Or.inr (Or.inr (Or.inr hm.2))⟩
theorem add4_l {M : MR} {a b c d e f g h : Nat} : ∀ k u v, M k u v → add4 M a b c d e f g h k u v := fun _ _ _ hm => Or.inl (Or.inl (Or.inl (Or.inl hm)))
theorem add4_1 (M : MR) (a b c d e f g h : Nat) : add4 M a b c d e f g h 6 a b := Or.inl (Or.inl (Or.inl (Or.inr ⟨rfl, rfl, rfl⟩)))
theorem add4_2 (M : MR) (a b c d e f g h : Nat) : add4 M a b c d e f g h 6 c d := Or.inl (Or.inl (Or.inr ⟨rfl, rfl, rfl⟩))
theorem add4_3 (M : MR) (a b c d e f g h : Nat) : add4 M a b c d e f g h 6 e f := Or.inl (Or.inr ⟨rfl, rfl, rfl⟩)
theorem add4_4 (M : MR) (a b c d e f g h : Nat) : add4 M a b c d e f g h 6 g h := Or.inr ⟨rfl, rfl, rfl⟩
theorem FI.alt {M : MR} {lo mid hi s1 e1 s2 e2 : Nat} {E F : Ex} (hM : ∀ k u v, M k u v → u < hi ∧ v < hi) (h : FI M lo mid s1 e1 E) (g : FI M mid hi s2 e2 F) :
    FI (add4 M hi s1 hi s2 e1 (hi + 1) e2 (hi + 1)) lo (hi + 2) hi (hi + 1) (exA E F) := by
  obtain ⟨h1, h2, h3, h4, h5, h6⟩ := h
  obtain ⟨g1, g2, g3, g4, g5, g6⟩ := g
  refine ⟨by omega, by omega, ?_, ?_, ?_, ?_⟩
  · intro k u v hm
    rcases add4_of hm with hm | hm
    · have a1 := h3 k u v hm
      have a2 := g3 k u v hm
      have a3 := hM k u v hm
      omega
    · omega
  · intro k u hm
    rcases add4_of hm with hm | hm
    · have a3 := hM k _ _ hm
      omega
    · omega
  · intro k v hm
    rcases add4_of hm with hm | hm
    · have a3 := hM k _ _ hm
      omega
    · omega
  · intro G a d b
    constructor
    · intro hp
      have := hp (fun u c d => (u = hi ∧ c = a ∧ d = 0) ∨ ((lo ≤ u ∧ u < mid) ∧ Pa G M s1 a d u c) ∨ ((mid ≤ u ∧ u < hi) ∧ Pa G M s2 a d u c) ∨ (u = hi + 1 ∧ exA E F G a d c)) (Or.inl ⟨rfl, rfl, rfl⟩) (by
        intro u c d k v w b hR hm hs
        rcases add4_of hm with hm | ⟨rfl, hn⟩
        · have a3 := hM k _ _ hm
          rcases hR with ⟨rfl, -⟩ | ⟨hu, hq⟩ | ⟨hu, hq⟩ | ⟨rfl, -⟩
          · omega
          · exact Or.inr (Or.inl ⟨(h3 k u v hm).mp hu, hq.step hm hs⟩)
          · exact Or.inr (Or.inr (Or.inl ⟨(g3 k u v hm).mp hu, hq.step hm hs⟩))
          · omega
        · obtain ⟨rfl, rfl⟩ := Sk6 hs
          rcases hR with ⟨rfl, rfl, rfl⟩ | ⟨hu, hq⟩ | ⟨hu, hq⟩ | ⟨rfl, -⟩
          · rcases hn with ⟨-, rfl⟩ | ⟨-, rfl⟩ | ⟨e1, -⟩ | ⟨e1, -⟩
            · exact Or.inr (Or.inl ⟨h1, Pa.rf G M _ _⟩)
            · exact Or.inr (Or.inr (Or.inl ⟨g1, Pa.rf G M _ _⟩))
            · omega
            · omega
          · rcases hn with ⟨e1, -⟩ | ⟨e1, -⟩ | ⟨rfl, rfl⟩ | ⟨e1, -⟩
            · omega
            · omega
            · exact Or.inr (Or.inr (Or.inr ⟨rfl, Or.inl ((h6 G a _ _).mp hq)⟩))
            · omega
          · rcases hn with ⟨e1, -⟩ | ⟨e1, -⟩ | ⟨e1, -⟩ | ⟨rfl, rfl⟩
            · omega
            · omega
            · omega
            · exact Or.inr (Or.inr (Or.inr ⟨rfl, Or.inr ((g6 G a _ _).mp hq)⟩))
          · omega)
      rcases this with ⟨e1, -⟩ | ⟨hu, -⟩ | ⟨hu, -⟩ | ⟨-, hq⟩
      · omega
      · omega
      · omega
      · exact hq
    · intro hq
      rcases hq with hq | hq
      · have p1 := (Pa.rf G (add4 M hi s1 hi s2 e1 (hi + 1) e2 (hi + 1)) hi a).step (add4_1 M hi s1 hi s2 e1 (hi + 1) e2 (hi + 1)) (Sk6i G a)
        have p2 := ((h6 G a d b).mpr hq).mono (add4_l (a := hi) (b := s1) (c := hi) (d := s2) (e := e1) (f := hi + 1) (g := e2) (h := hi + 1))
        have p3 := (p1.tr p2).step (add4_3 M hi s1 hi s2 e1 (hi + 1) e2 (hi + 1)) (Sk6i G b)
        simp only [Nat.zero_add, Nat.add_zero] at p3
        exact p3
      · have p1 := (Pa.rf G (add4 M hi s1 hi s2 e1 (hi + 1) e2 (hi + 1)) hi a).step (add4_2 M hi s1 hi s2 e1 (hi + 1) e2 (hi + 1)) (Sk6i G a)
        have p2 := ((g6 G a d b).mpr hq).mono (add4_l (a := hi) (b := s1) (c := hi) (d := s2) (e := e1) (f := hi + 1) (g := e2) (h := hi + 1))
        have p3 := (p1.tr p2).step (add4_4 M hi s1 hi s2 e1 (hi + 1) e2 (hi + 1)) (Sk6i G b)
        simp only [Nat.zero_add, Nat.add_zero] at p3
        exact p3
theorem FI.star {M : MR} {lo hi x y : Nat} {E : Ex} (hM : ∀ k u v, M k u v → u < hi ∧ v < hi) (h : FI M lo hi x y E) :
    FI (add4 M hi x y (hi + 1) y x hi (hi + 1)) lo (hi + 2) hi (hi + 1) (exK E) := by
  obtain ⟨h1, h2, h3, h4, h5, h6⟩ := h
  refine ⟨by omega, by omega, ?_, ?_, ?_, ?_⟩
  · intro k u v hm
    rcases add4_of hm with hm | hm
    · have a1 := h3 k u v hm
      have a3 := hM k u v hm
      omega
    · omega
  · intro k u hm
    rcases add4_of hm with hm | hm
    · have a3 := hM k _ _ hm
      omega
    · omega
  · intro k v hm
    rcases add4_of hm with hm | hm
    · have a3 := hM k _ _ hm
      omega
    · omega
  · intro G a d b
    constructor
    · intro hp
      have := hp (fun u c d => (u = hi ∧ c = a ∧ d = 0) ∨ ((lo ≤ u ∧ u < hi) ∧ ∃ z d1 d2, exK E G a d1 z ∧ Pa G M x z d2 u c ∧ d = d1 + d2) ∨ (u = hi + 1 ∧ exK E G a d c)) (Or.inl ⟨rfl, rfl, rfl⟩) (by
        intro u c d k v w b hR hm hs
        rcases add4_of hm with hm | ⟨rfl, hn⟩
        · have a3 := hM k _ _ hm
          rcases hR with ⟨rfl, -⟩ | ⟨hu, z, d1, d2, hE, hq, hd⟩ | ⟨rfl, -⟩
          · omega
          · exact Or.inr (Or.inl ⟨(h3 k u v hm).mp hu, z, d1, d2 + w, hE, hq.step hm hs, by omega⟩)
          · omega
        · obtain ⟨rfl, rfl⟩ := Sk6 hs
          rcases hR with ⟨rfl, rfl, rfl⟩ | ⟨hu, z, d1, d2, hE, hq, hd⟩ | ⟨rfl, -⟩
          · rcases hn with ⟨-, rfl⟩ | ⟨e1, -⟩ | ⟨e1, -⟩ | ⟨-, rfl⟩
            · exact Or.inr (Or.inl ⟨h1, _, 0, 0, exK_rf E G _, Pa.rf G M _ _, rfl⟩)
            · omega
            · omega
            · exact Or.inr (Or.inr ⟨rfl, exK_rf E G _⟩)
          · rcases hn with ⟨e1, -⟩ | ⟨rfl, rfl⟩ | ⟨rfl, rfl⟩ | ⟨e1, -⟩
            · omega
            · refine Or.inr (Or.inr ⟨rfl, ?_⟩)
              rw [hd, Nat.add_zero]
              exact exK_step hE ((h6 G z _ _).mp hq)
            · refine Or.inr (Or.inl ⟨h1, _, d1 + d2, 0, exK_step hE ((h6 G z _ _).mp hq), Pa.rf G M _ _, by omega⟩)
            · omega
          · omega)
      rcases this with ⟨e1, -⟩ | ⟨hu, -⟩ | ⟨-, hq⟩
      · omega
      · omega
      · exact hq
    · intro hq
      have := hq (fun c d => Pa G (add4 M hi x y (hi + 1) y x hi (hi + 1)) hi a d x c ∧ Pa G (add4 M hi x y (hi + 1) y x hi (hi + 1)) hi a d (hi + 1) c) ⟨(Pa.rf G _ hi a).step (add4_1 M hi x y (hi + 1) y x hi (hi + 1)) (Sk6i G a), (Pa.rf G _ hi a).step (add4_4 M hi x y (hi + 1) y x hi (hi + 1)) (Sk6i G a)⟩ (by
        intro c d w b hZ hE
        have p2 := ((h6 G c w b).mpr hE).mono (add4_l (a := hi) (b := x) (c := y) (d := hi + 1) (e := y) (f := x) (g := hi) (h := hi + 1))
        have p3 := hZ.1.tr p2
        exact ⟨p3.step (add4_3 M hi x y (hi + 1) y x hi (hi + 1)) (Sk6i G b), p3.step (add4_2 M hi x y (hi + 1) y x hi (hi + 1)) (Sk6i G b)⟩)
      exact this.2
end
section
/-! the stack of fragments; the bound of least lengths -/
def SI (M : MR) (ss n : Nat) (st en bd : Nat → Nat) (E : Nat → Ex) : Prop :=
  bd 0 = 0 ∧ bd n = ss ∧ (∀ h, h < n → FI M (bd h) (bd (h + 1)) (st h) (en h) (E h)) ∧ ∀ k u v, M k u v → u < ss ∧ v < ss
theorem SI.up {M : MR} {ss n : Nat} {st en bd : Nat → Nat} {E : Nat → Ex} (h : SI M ss n st en bd E) : ∀ (j i : Nat), i ≤ j → j ≤ n → bd i ≤ bd j := by
  intro j
  induction j with
  | zero =>
    intro i hi _
    have : i = 0 := by omega
    rw [this]
    exact Nat.le_refl _
  | succ j ih =>
    intro i hi hj
    rcases Nat.lt_or_ge i (j + 1) with q | q
    · have a1 := ih i (by omega) (by omega)
      have a2 := h.2.2.1 j (by omega)
      have a3 := a2.1
      omega
    · have : i = j + 1 := by omega
      rw [this]
      exact Nat.le_refl _
theorem SI.ends {M : MR} {ss n : Nat} {st en bd : Nat → Nat} {E : Nat → Ex} (h : SI M ss n st en bd E) {k : Nat} (hk : k < n) : (bd k ≤ st k ∧ st k < bd (k + 1)) ∧ (bd k ≤ en k ∧ en k < bd (k + 1)) ∧ st k < ss ∧ en k < ss := by
  have a1 := h.2.2.1 k hk
  have a2 := h.up n (k + 1) (by omega) (Nat.le_refl n)
  have a3 := h.2.1
  have b1 := a1.1
  have b2 := a1.2.1
  omega
theorem SI_0 {M : MR} {st en : Nat → Nat} {E : Nat → Ex} (hM : ∀ k u v, ¬ M k u v) : SI M 0 0 st en (fun _ => 0) E :=
  ⟨rfl, rfl, fun h hh => absurd hh (Nat.not_lt_zero h), fun k u v hm => absurd hm (hM k u v)⟩
theorem SI.push {M : MR} {ss n : Nat} {st en bd : Nat → Nat} {E : Nat → Ex} (h : SI M ss n st en bd E) (k : Nat) :
    SI (addM M k ss (ss + 1)) (ss + 2) (n + 1) (va_up st n ss) (va_up en n (ss + 1)) (va_up bd (n + 1) (ss + 2)) (va_up E n (ex1 k)) := by
  have hup := h.up
  obtain ⟨h1, h2, h3, h4⟩ := h
  refine ⟨?_, va_up_self _ _ _, ?_, ?_⟩
  · rw [up_n (by omega)]; exact h1
  · intro x hx
    rcases Nat.lt_or_ge x n with q | q
    · rw [up_n (show x ≠ n + 1 by omega), up_n (show x + 1 ≠ n + 1 by omega), up_n (show x ≠ n by omega), up_n (show x ≠ n by omega), up_n (show x ≠ n by omega)]
      have a1 := hup n (x + 1) (by omega) (Nat.le_refl n)
      exact (h3 x q).out (Or.inr (by omega)) (Or.inr (by omega))
    · have : x = n := by omega
      subst this
      rw [va_up_self, va_up_self, va_up_self, va_up_self, up_n (show x ≠ x + 1 by omega), h2]
      exact FI.push h4 k
  · intro k u v hm
    rcases hm with hm | ⟨-, rfl, rfl⟩
    · have := h4 k u v hm
      omega
    · omega
theorem SI.seq {M : MR} {ss n : Nat} {st en bd : Nat → Nat} {E : Nat → Ex} (h : SI M ss (n + 2) st en bd E) :
    SI (addM M 6 (en n) (st (n + 1))) ss (n + 1) st (va_up en n (en (n + 1))) (va_up bd (n + 1) ss) (va_up E n (exS (E n) (E (n + 1)))) := by
  have hup := h.up
  have e1 := h.ends (k := n) (by omega)
  have e2 := h.ends (k := n + 1) (by omega)
  obtain ⟨h1, h2, h3, h4⟩ := h
  refine ⟨?_, va_up_self _ _ _, ?_, ?_⟩
  · rw [up_n (by omega)]; exact h1
  · intro x hx
    rcases Nat.lt_or_ge x n with q | q
    · rw [up_n (show x ≠ n + 1 by omega), up_n (show x + 1 ≠ n + 1 by omega), up_n (show x ≠ n by omega), up_n (show x ≠ n by omega)]
      have a1 := hup n (x + 1) (by omega) (by omega)
      exact (h3 x (by omega)).out (Or.inr (by omega)) (Or.inr (by omega))
    · have : x = n := by omega
      subst this
      rw [va_up_self, va_up_self, va_up_self, up_n (show x ≠ x + 1 by omega), ← h2]
      exact (h3 x (by omega)).seq (h3 (x + 1) (by omega))
  · intro k u v hm
    rcases hm with hm | ⟨-, rfl, rfl⟩
    · exact h4 k u v hm
    · omega
theorem SI.alt {M : MR} {ss n : Nat} {st en bd : Nat → Nat} {E : Nat → Ex} (h : SI M ss (n + 2) st en bd E) :
    SI (add4 M ss (st n) ss (st (n + 1)) (en n) (ss + 1) (en (n + 1)) (ss + 1)) (ss + 2) (n + 1) (va_up st n ss) (va_up en n (ss + 1)) (va_up bd (n + 1) (ss + 2)) (va_up E n (exA (E n) (E (n + 1)))) := by
  have hup := h.up
  have e1 := h.ends (k := n) (by omega)
  have e2 := h.ends (k := n + 1) (by omega)
  obtain ⟨h1, h2, h3, h4⟩ := h
  refine ⟨?_, va_up_self _ _ _, ?_, ?_⟩
  · rw [up_n (by omega)]; exact h1
  · intro x hx
    have a0 := hup (n + 2) (n + 1) (by omega) (by omega)
    have a2 := hup (n + 1) n (by omega) (by omega)
    rcases Nat.lt_or_ge x n with q | q
    · rw [up_n (show x ≠ n + 1 by omega), up_n (show x + 1 ≠ n + 1 by omega), up_n (show x ≠ n by omega), up_n (show x ≠ n by omega), up_n (show x ≠ n by omega)]
      have a1 := hup n (x + 1) (by omega) (by omega)
      exact ((((h3 x (by omega)).out (Or.inr (by omega)) (Or.inr (by omega))).out (Or.inr (by omega)) (Or.inr (by omega))).out (Or.inr (by omega)) (Or.inr (by omega))).out (Or.inr (by omega)) (Or.inr (by omega))
    · have : x = n := by omega
      subst this
      rw [va_up_self, va_up_self, va_up_self, va_up_self, up_n (show x ≠ x + 1 by omega)]
      have f1 := h3 x (by omega)
      have f2 := h3 (x + 1) (by omega)
      rw [show x + 1 + 1 = x + 2 from rfl, h2] at f2
      exact FI.alt h4 f1 f2
  · intro k u v hm
    rcases add4_of hm with hm | hm
    · have := h4 k u v hm
      omega
    · omega
theorem SI.star {M : MR} {ss n : Nat} {st en bd : Nat → Nat} {E : Nat → Ex} (h : SI M ss (n + 1) st en bd E) :
    SI (add4 M ss (st n) (en n) (ss + 1) (en n) (st n) ss (ss + 1)) (ss + 2) (n + 1) (va_up st n ss) (va_up en n (ss + 1)) (va_up bd (n + 1) (ss + 2)) (va_up E n (exK (E n))) := by
  have hup := h.up
  have e1 := h.ends (k := n) (by omega)
  obtain ⟨h1, h2, h3, h4⟩ := h
  refine ⟨?_, va_up_self _ _ _, ?_, ?_⟩
  · rw [up_n (by omega)]; exact h1
  · intro x hx
    have a0 := hup (n + 1) n (by omega) (by omega)
    rcases Nat.lt_or_ge x n with q | q
    · rw [up_n (show x ≠ n + 1 by omega), up_n (show x + 1 ≠ n + 1 by omega), up_n (show x ≠ n by omega), up_n (show x ≠ n by omega), up_n (show x ≠ n by omega)]
      have a1 := hup n (x + 1) (by omega) (by omega)
      exact ((((h3 x (by omega)).out (Or.inr (by omega)) (Or.inr (by omega))).out (Or.inr (by omega)) (Or.inr (by omega))).out (Or.inr (by omega)) (Or.inr (by omega))).out (Or.inr (by omega)) (Or.inr (by omega))
    · have : x = n := by omega
      subst this
      rw [va_up_self, va_up_self, va_up_self, va_up_self, up_n (show x ≠ x + 1 by omega)]
      have f1 := h3 x (by omega)
      rw [h2] at f1
      exact FI.star h4 f1
  · intro k u v hm
    rcases add4_of hm with hm | hm
    · have := h4 k u v hm
      omega
    · omega
/-- moves as they lie in the arrays -/
def Mv (mv : Nat) (kd fr tt : Nat → Nat) : MR := fun k u v => ∃ i, i < mv ∧ kd i = k ∧ fr i = u ∧ tt i = v
theorem Mv_add (mv : Nat) (kd fr tt : Nat → Nat) (k u v : Nat) : Mv (mv + 1) (va_up kd mv k) (va_up fr mv u) (va_up tt mv v) = addM (Mv mv kd fr tt) k u v := by
  funext a b c
  refine propext ⟨?_, ?_⟩
  · rintro ⟨i, hi, e1, e2, e3⟩
    rcases Nat.lt_or_ge i mv with q | q
    · rw [up_n (by omega)] at e1 e2 e3
      exact Or.inl ⟨i, q, e1, e2, e3⟩
    · have : i = mv := by omega
      subst this
      rw [va_up_self] at e1 e2 e3
      exact Or.inr ⟨e1.symm, e2.symm, e3.symm⟩
  · rintro (⟨i, hi, e1, e2, e3⟩ | ⟨rfl, rfl, rfl⟩)
    · refine ⟨i, by omega, ?_, ?_, ?_⟩ <;> rw [up_n (by omega)] <;> assumption
    · exact ⟨mv, by omega, va_up_self _ _ _, va_up_self _ _ _, va_up_self _ _ _⟩
/-- least lengths below one that is met are met -/
theorem mn_fill {G : GR} {M : MR} {n s a d t b : Nat} (hG : GB G) (hM : ∀ k u v, M k u v → u < n ∧ v < n) (hs : s < n) (ha : a < 8) (h : Pa G M s a d t b) :
    ∀ k, k < mn (fun d => Pa G M s a d t b) → ∃ u c, u < n ∧ c < 8 ∧ mn (fun d => Pa G M s a d u c) = k + 1 := by
  have := h (fun t b d => Pa G M s a d t b ∧ ∀ k, k < mn (fun d => Pa G M s a d t b) → ∃ u c, u < n ∧ c < 8 ∧ mn (fun d => Pa G M s a d u c) = k + 1) ⟨Pa.rf G M s a, by
      have e1 : mn (fun d => Pa G M s a d s a) = 0 + 1 := mn_succ.mpr ⟨Pa.rf G M s a, fun j _ => Nat.zero_le j⟩
      intro k hk
      exact ⟨s, a, hs, ha, by omega⟩⟩ (by
    intro u c d k v w b hR hm hsk
    have hp := hR.1.step hm hsk
    refine ⟨hp, ?_⟩
    intro j hj
    obtain ⟨x, ex, hx, -⟩ := mn_some (P := fun d => Pa G M s a d u c) ⟨d, hR.1⟩
    have a1 := mn_le (P := fun d => Pa G M s a d v b) (d := x + w) (hx.step hm hsk)
    have a2 := Sk_w hsk
    rcases Nat.lt_or_ge j (mn (fun d => Pa G M s a d u c)) with q | q
    · exact hR.2 j q
    · exact ⟨v, b, (hM k u v hm).2, Sk_8 hG hsk (Pa.lt8 hG ha hR.1), by omega⟩)
  exact this.2
theorem mn_bound {G : GR} {M : MR} {s a : Nat} (hG : GB G) (hM : ∀ k u v, M k u v → u < 28 ∧ v < 28) (hs : s < 28) (ha : a < 8) (t b : Nat) : mn (fun d => Pa G M s a d t b) ≤ 224 := by
  rcases Nat.eq_zero_or_pos (mn (fun d => Pa G M s a d t b)) with h0 | h0
  · omega
  obtain ⟨d, hd⟩ : ∃ d, mn (fun d => Pa G M s a d t b) = d + 1 := ⟨mn (fun d => Pa G M s a d t b) - 1, by omega⟩
  have hf := mn_fill hG hM hs ha (mn_succ.mp hd).1
  have hf2 : ∀ k, ∃ q, k < mn (fun d => Pa G M s a d t b) → q < 224 ∧ mn (fun d => Pa G M s a d (q / 8) (q % 8)) = k + 1 := by
    intro k
    by_cases hk : k < mn (fun d => Pa G M s a d t b)
    · obtain ⟨u, c, h1, h2, h3⟩ := hf k hk
      refine ⟨8 * u + c, fun _ => ⟨by omega, ?_⟩⟩
      rw [show (8 * u + c) / 8 = u by omega, show (8 * u + c) % 8 = c by omega]
      exact h3
    · exact ⟨0, fun h => absurd h hk⟩
  refine fb_holes 224 _ (fun k => Classical.choose (hf2 k)) (fun k hk => (Classical.choose_spec (hf2 k) hk).1) ?_
  intro i j hij hj e
  have a1 := (Classical.choose_spec (hf2 i) (by omega)).2
  have a2 := (Classical.choose_spec (hf2 j) hj).2
  have e : Classical.choose (hf2 i) = Classical.choose (hf2 j) := e
  rw [e] at a1
  omega
end
section
/-! the search by levels -/
def xLV (PP : Nat → Nat → Prop) (D hr : Nat) (ln lv : Nat → Nat) : Prop :=
  hr ≤ 224 ∧ (∀ p d, p < 224 → ln p = d + 1 → PP p d ∧ d ≤ D) ∧ (∀ i, i < hr → lv i < 224 ∧ ln (lv i) = D + 1) ∧ (∀ i j, i < j → j < hr → lv i ≠ lv j) ∧ (∀ p, p < 224 → ln p = D + 1 → ∃ i, i < hr ∧ lv i = p)
def xCM (Z : Nat → Prop) (nx : Nat) (cm : Nat → Nat) : Prop :=
  nx ≤ 224 ∧ (∀ i, i < nx → cm i < 224 ∧ Z (cm i)) ∧ (∀ i j, i < j → j < nx → cm i ≠ cm j)
def xGr (D hr hr' nx nx' : Nat) (ln ln' lv lv' cm cm' : Nat → Nat) : Prop :=
  (∀ p, ln p ≠ 0 → ln' p = ln p) ∧ (∀ p, ln p = 0 → ln' p = 0 ∨ ln' p = D + 1) ∧ hr ≤ hr' ∧ (∀ i, i < hr → lv' i = lv i) ∧ nx ≤ nx' ∧ (∀ i, i < nx → cm' i = cm i)
theorem xGr.rf (D hr nx : Nat) (ln lv cm : Nat → Nat) : xGr D hr hr nx nx ln ln lv lv cm cm :=
  ⟨fun _ _ => rfl, fun _ h => Or.inl h, Nat.le_refl _, fun _ _ => rfl, Nat.le_refl _, fun _ _ => rfl⟩
theorem xGr.tr {D hr hr' hr'' nx nx' nx'' : Nat} {ln ln' ln'' lv lv' lv'' cm cm' cm'' : Nat → Nat} (h : xGr D hr hr' nx nx' ln ln' lv lv' cm cm') (g : xGr D hr' hr'' nx' nx'' ln' ln'' lv' lv'' cm' cm'') : xGr D hr hr'' nx nx'' ln ln'' lv lv'' cm cm'' := by
  obtain ⟨h1, h2, h3, h4, h5, h6⟩ := h
  obtain ⟨g1, g2, g3, g4, g5, g6⟩ := g
  refine ⟨fun p hp => ?_, fun p hp => ?_, by omega, fun i hi => ?_, by omega, fun i hi => ?_⟩
  · have e1 := h1 p hp
    rw [g1 p (by omega), e1]
  · rcases h2 p hp with q | q
    · exact g2 p q
    · right
      rw [g1 p (by omega), q]
  · rw [g4 i (by omega), h4 i hi]
  · rw [g6 i (by omega), h6 i hi]
theorem xLV.room {PP : Nat → Nat → Prop} {D hr : Nat} {ln lv : Nat → Nat} (h : xLV PP D hr ln lv) {p : Nat} (hp : p < 224) (h0 : ln p = 0) : hr < 224 := by
  obtain ⟨h1, h2, h3, h4, h5⟩ := h
  have := fb_holes 224 (hr + 1) (va_up lv hr p) (fun i hi => by
      by_cases q : i = hr
      · rw [q, up_s]; exact hp
      · rw [up_n q]; exact (h3 i (by omega)).1) (fun i j hij hj => by
      rw [up_n (show i ≠ hr by omega)]
      by_cases q : j = hr
      · rw [q, up_s]
        intro e
        have a1 := (h3 i (by omega)).2
        rw [e] at a1
        omega
      · rw [up_n q]
        exact h4 i j hij (by omega))
  omega
theorem xLV.add {PP : Nat → Nat → Prop} {D hr : Nat} {ln lv : Nat → Nat} (h : xLV PP D hr ln lv) {p : Nat} (hp : p < 224) (h0 : ln p = 0) (hPP : PP p D) : xLV PP D (hr + 1) (va_up ln p (D + 1)) (va_up lv hr p) := by
  have hr2 := h.room hp h0
  obtain ⟨h1, h2, h3, h4, h5⟩ := h
  have hne : ∀ i, i < hr → lv i ≠ p := by
    intro i hi e
    have a1 := (h3 i hi).2
    rw [e] at a1
    omega
  refine ⟨by omega, ?_, ?_, ?_, ?_⟩
  · intro q d hq e
    by_cases c : q = p
    · subst c
      rw [up_s] at e
      have : d = D := by omega
      subst this
      exact ⟨hPP, Nat.le_refl _⟩
    · rw [up_n c] at e
      exact h2 q d hq e
  · intro i hi
    by_cases c : i = hr
    · rw [c, up_s, up_s]
      exact ⟨hp, rfl⟩
    · rw [up_n c, up_n (hne i (by omega))]
      exact h3 i (by omega)
  · intro i j hij hj
    rw [up_n (show i ≠ hr by omega)]
    by_cases c : j = hr
    · rw [c, up_s]
      exact hne i (by omega)
    · rw [up_n c]
      exact h4 i j hij (by omega)
  · intro q hq e
    by_cases c : q = p
    · exact ⟨hr, by omega, by rw [up_s, c]⟩
    · rw [up_n c] at e
      obtain ⟨i, hi, e2⟩ := h5 q hq e
      exact ⟨i, by omega, by rw [up_n (show i ≠ hr by omega)]; exact e2⟩
theorem xLV.addG {D hr nx : Nat} {ln lv cm : Nat → Nat} {p : Nat} (h0 : ln p = 0) : xGr D hr (hr + 1) nx nx ln (va_up ln p (D + 1)) lv (va_up lv hr p) cm cm := by
  refine ⟨fun q hq => ?_, fun q hq => ?_, by omega, fun i hi => ?_, Nat.le_refl _, fun _ _ => rfl⟩
  · rw [up_n (fun e => hq (by rw [e]; exact h0))]
  · by_cases c : q = p
    · rw [c, up_s]; exact Or.inr rfl
    · rw [up_n c]; exact Or.inl hq
  · rw [up_n (show i ≠ hr by omega)]
theorem xLV.next {PP : Nat → Nat → Prop} {D hr : Nat} {ln lv : Nat → Nat} (h : xLV PP D hr ln lv) : xLV PP (D + 1) 0 ln lv := by
  obtain ⟨h1, h2, h3, h4, h5⟩ := h
  refine ⟨by omega, ?_, ?_, ?_, ?_⟩
  · intro p d hp e
    have := h2 p d hp e
    exact ⟨this.1, by omega⟩
  · intro i hi
    omega
  · intro i j hij hj
    omega
  · intro p hp e
    have := h2 p (D + 1) hp e
    omega
theorem xLV_0 (PP : Nat → Nat → Prop) {ln : Nat → Nat} (lv : Nat → Nat) (h : ∀ p, p < 224 → ln p = 0) : xLV PP 0 0 ln lv := by
  refine ⟨by omega, ?_, ?_, ?_, ?_⟩
  · intro p d hp e
    have := h p hp
    omega
  · intro i hi
    omega
  · intro i j hij hj
    omega
  · intro p hp e
    have := h p hp
    omega
theorem xCM_0 (Z : Nat → Prop) (cm : Nat → Nat) : xCM Z 0 cm := ⟨by omega, fun i hi => by omega, fun i j _ hj => by omega⟩
theorem xCM.add {Z : Nat → Prop} {nx : Nat} {cm : Nat → Nat} (h : xCM Z nx cm) {p : Nat} (hp : p < 224) (hZ : Z p) (hn : nx < 224) (hno : ∀ i, i < nx → cm i ≠ p) : xCM Z (nx + 1) (va_up cm nx p) := by
  obtain ⟨h1, h2, h3⟩ := h
  refine ⟨by omega, ?_, ?_⟩
  · intro i hi
    by_cases c : i = nx
    · rw [c, up_s]; exact ⟨hp, hZ⟩
    · rw [up_n c]; exact h2 i (by omega)
  · intro i j hij hj
    rw [up_n (show i ≠ nx by omega)]
    by_cases c : j = nx
    · rw [c, up_s]; exact hno i (by omega)
    · rw [up_n c]; exact h3 i j hij (by omega)
theorem xCM.full {Z : Nat → Prop} {nx : Nat} {cm : Nat → Nat} (h : xCM Z nx cm) (hn : 224 ≤ nx) {p : Nat} (hp : p < 224) : ∃ i, i < nx ∧ cm i = p := by
  obtain ⟨h1, h2, h3⟩ := h
  have : nx = 224 := by omega
  subst this
  exact fb_onto (fun i hi => (h2 i hi).1) h3 hp
/-- a move is followed -/
def xDn (G : GR) (k a v nx : Nat) (ln cm : Nat → Nat) : Prop := ∀ w b, Sk G k a w b → ln (v * 8 + b) ≠ 0 ∨ (w = 1 ∧ ∃ i, i < nx ∧ cm i = v * 8 + b)
theorem xDn.gr {G : GR} {k a v D hr hr' nx nx' : Nat} {ln ln' lv lv' cm cm' : Nat → Nat} (h : xDn G k a v nx ln cm) (g : xGr D hr hr' nx nx' ln ln' lv lv' cm cm') : xDn G k a v nx' ln' cm' := by
  obtain ⟨g1, g2, g3, g4, g5, g6⟩ := g
  intro w b hs
  rcases h w b hs with q | ⟨q, i, hi, e⟩
  · left
    rw [g1 _ q]
    exact q
  · exact Or.inr ⟨q, i, by omega, by rw [g6 i hi]; exact e⟩
def xOLD (G : GR) (M : MR) (D : Nat) (ln : Nat → Nat) : Prop :=
  ∀ p d, p < 224 → d < D → ln p = d + 1 → ∀ k v w b, M k (p / 8) v → Sk G k (p % 8) w b → ln (v * 8 + b) ≠ 0 ∧ ln (v * 8 + b) ≤ d + w + 1
theorem xOLD_0 (G : GR) (M : MR) (ln : Nat → Nat) : xOLD G M 0 ln := fun _ _ _ hd => absurd hd (Nat.not_lt_zero _)
theorem bfs_mid {G : GR} {M : MR} {s0 a0 D : Nat} {ln : Nat → Nat} (hG : GB G) (hM : ∀ k u v, M k u v → u < 28 ∧ v < 28) (hs : s0 < 28) (ha : a0 < 8) (hold : xOLD G M D ln) (hsrc : ln (s0 * 8 + a0) = 1) {d t b : Nat} (h : Pa G M s0 a0 d t b) :
    (ln (t * 8 + b) ≠ 0 ∧ ln (t * 8 + b) ≤ d + 1) ∨ D ≤ d := by
  have := h (fun t b d => t < 28 ∧ b < 8 ∧ ((ln (t * 8 + b) ≠ 0 ∧ ln (t * 8 + b) ≤ d + 1) ∨ D ≤ d)) ⟨hs, ha, Or.inl (by omega)⟩ (by
    intro u c d k v w b ⟨hu, hc, hR⟩ hm hsk
    refine ⟨(hM k u v hm).2, Sk_8 hG hsk hc, ?_⟩
    rcases Nat.lt_or_ge d D with q | q
    · rcases hR with hR | hR
      · left
        have := hold (u * 8 + c) (ln (u * 8 + c) - 1) (by omega) (by omega) (by omega) k v w b (by rw [show (u * 8 + c) / 8 = u by omega]; exact hm) (by rw [show (u * 8 + c) % 8 = c by omega]; exact hsk)
        omega
      · omega
    · right
      omega)
  exact this.2.2
theorem bfs_deep {G : GR} {M : MR} {s0 a0 D hr : Nat} {ln lv : Nat → Nat} (hG : GB G) (hM : ∀ k u v, M k u v → u < 28 ∧ v < 28) (hs : s0 < 28) (ha : a0 < 8) (hold : xOLD G M D ln) (hsrc : ln (s0 * 8 + a0) = 1) (hL : xLV (fun p d => Pa G M s0 a0 d (p / 8) (p % 8)) D hr ln lv) (h0 : 0 < hr) : D ≤ 223 := by
  obtain ⟨h1, h2, h3, h4, h5⟩ := hL
  have a1 := h3 0 h0
  have a2 := (h2 (lv 0) D a1.1 a1.2).1
  have a3 := mn_bound hG hM hs ha (lv 0 / 8) (lv 0 % 8)
  obtain ⟨x, e, hx, -⟩ := mn_some (P := fun d => Pa G M s0 a0 d (lv 0 / 8) (lv 0 % 8)) ⟨D, a2⟩
  have a4 := bfs_mid hG hM hs ha hold hsrc hx
  rw [show lv 0 / 8 * 8 + lv 0 % 8 = lv 0 by omega] at a4
  omega
theorem bfs_fin {G : GR} {M : MR} {s0 a0 D : Nat} {ln lv : Nat → Nat} (hG : GB G) (hM : ∀ k u v, M k u v → u < 28 ∧ v < 28) (hs : s0 < 28) (ha : a0 < 8) (hold : xOLD G M D ln) (hsrc : ln (s0 * 8 + a0) = 1) (hL : xLV (fun p d => Pa G M s0 a0 d (p / 8) (p % 8)) D 0 ln lv) :
    ∀ p, p < 224 → ln p = mn (fun d => Pa G M s0 a0 d (p / 8) (p % 8)) := by
  obtain ⟨h1, h2, h3, h4, h5⟩ := hL
  have hall : ∀ d t b, Pa G M s0 a0 d t b → ln (t * 8 + b) ≠ 0 ∧ ln (t * 8 + b) ≤ d + 1 := by
    intro d t b h
    have := h (fun t b d => t < 28 ∧ b < 8 ∧ (ln (t * 8 + b) ≠ 0 ∧ ln (t * 8 + b) ≤ d + 1)) ⟨hs, ha, by omega⟩ (by
      intro u c d k v w b ⟨hu, hc, hR⟩ hm hsk
      refine ⟨(hM k u v hm).2, Sk_8 hG hsk hc, ?_⟩
      have b1 := h2 (u * 8 + c) (ln (u * 8 + c) - 1) (by omega) (by omega)
      have b2 : ln (u * 8 + c) ≠ D + 1 := by
        intro e
        obtain ⟨i, hi, -⟩ := h5 _ (by omega) e
        omega
      have := hold (u * 8 + c) (ln (u * 8 + c) - 1) (by omega) (by omega) (by omega) k v w b (by rw [show (u * 8 + c) / 8 = u by omega]; exact hm) (by rw [show (u * 8 + c) % 8 = c by omega]; exact hsk)
      omega)
    exact this.2.2
  intro p hp
  have ep : p / 8 * 8 + p % 8 = p := by omega
  rcases Nat.eq_zero_or_pos (ln p) with h0 | h0
  · rw [h0]
    symm
    refine mn_none fun d hd => ?_
    have := hall d _ _ hd
    rw [ep] at this
    omega
  · obtain ⟨x, hx⟩ : ∃ x, ln p = x + 1 := ⟨ln p - 1, by omega⟩
    rw [hx]
    symm
    refine mn_succ.mpr ⟨(h2 p x hp hx).1, fun j hj => ?_⟩
    have := hall j _ _ hj
    rw [ep] at this
    omega
/-- one level more -/
theorem bfs_next {G : GR} {PP : Nat → Nat → Prop} {mv D hr hr1 hr2 nx nx1 : Nat} {kd fr tt ln ln1 ln2 lv lv1 lv2 cm cm1 : Nat → Nat} (hG : GB G) (hM : ∀ i, i < mv → tt i < 28)
    (hold : xOLD G (Mv mv kd fr tt) D ln) (hg : xGr D hr hr1 nx nx1 ln ln1 lv lv1 cm cm1) (hL1 : xLV PP D hr1 ln1 lv1)
    (hdn : ∀ i, i < hr1 → ∀ m, m < mv → fr m = lv1 i / 8 → xDn G (kd m) (lv1 i % 8) (tt m) nx1 ln1 cm1)
    (hL2 : xLV PP (D + 1) hr2 ln2 lv2) (hg1 : ∀ p, ln1 p ≠ 0 → ln2 p = ln1 p) (hg2 : ∀ p, ln1 p = 0 → ln2 p = 0 ∨ ln2 p = D + 2) (hcm : ∀ i, i < nx1 → ln2 (cm1 i) ≠ 0) : xOLD G (Mv mv kd fr tt) (D + 1) ln2 := by
  obtain ⟨g1, g2, g3, g4, g5, g6⟩ := hg
  intro p d hp hd e k v w b hm hs
  have hm0 := hm
  obtain ⟨m, hmv, e1, e2, e3⟩ := hm
  have hp8 : p % 8 < 8 := by omega
  have hb := Sk_8 hG hs hp8
  have hv : v < 28 := by rw [← e3]; exact hM m hmv
  have hq : v * 8 + b < 224 := by omega
  have e4 : ln1 p = d + 1 := by
    by_cases c : ln1 p = 0
    · have := hg2 p c
      omega
    · rw [← hg1 p c]; exact e
  rcases Nat.lt_or_ge d D with q | q
  · have e5 : ln p = d + 1 := by
      by_cases c : ln p = 0
      · have := g2 p c
        omega
      · rw [← g1 p c]; exact e4
    have a1 := hold p d hp q e5 k v w b hm0 hs
    have a2 := g1 _ a1.1
    have a3 := hg1 (v * 8 + b) (by omega)
    omega
  · have : d = D := by omega
    subst this
    obtain ⟨i, hi, e6⟩ := hL1.2.2.2.2 p hp e4
    have a1 := hdn i hi m hmv (by rw [e6]; exact e2)
    rw [e6, e1, e3] at a1
    have a4 : ln2 (v * 8 + b) ≠ 0 → ln2 (v * 8 + b) ≤ d + 2 := by
      intro c
      have := (hL2.2.1 (v * 8 + b) (ln2 (v * 8 + b) - 1) hq (by omega)).2
      omega
    rcases a1 w b hs with c | ⟨c, i, hi, e7⟩
    · have a2 := hg1 _ c
      have a3 := (hL1.2.1 (v * 8 + b) (ln1 (v * 8 + b) - 1) hq (by omega)).2
      omega
    · have a2 := hcm i hi
      rw [e7] at a2
      have := a4 a2
      omega
end
section
/-! rows over numbers nI -/
theorem zz_m1 {n : Nat} (h : n < 2 ^ 31) : nI n - 1 < 0 ↔ n = 0 := by
  constructor
  · intro q
    rcases Nat.eq_zero_or_pos n with e | e
    · exact e
    · obtain ⟨k, rfl⟩ : ∃ k, n = k + 1 := ⟨n - 1, by omega⟩
      rw [nI_pred] at q
      exact absurd q (nI_pos (by omega))
  · intro e
    subst e
    decide
theorem zz_m1s (n : Nat) : nI (n + 1) - 1 = nI n := nI_pred n
section XR
variable {p : Program} {l : Launch} {e : Env} {R : Room} {s : State} {m : MethodId} {args : Array Value} {below : List Frame} {meth : Method} {c : Code} {H : Heap} {locs : List Loc} {cells slots : Nat} {Q : State → Prop}
variable {cc : ByteArray} {pc : Nat} {ls : Array Slot} {rest : List Value} {D : va_G} {cl : List vw_C} {A : Nat → Prop} {q : Nat} {tys : List (ClassId × FieldType)} {ws : va_W} {H0 : Heap}
theorem xr_iadd (hx : p.tables.exec = Jvm.exec) (hb : c.code = cc) {a b : Nat} (hdg : decode cc pc = .ok (.iadd, 1)) (k : W p l e R s m args below meth c H locs cells slots Q (F0 m (pc + 1) ls (.int (nI (a + b)) :: rest))) : W p l e R s m args below meth c H locs cells slots Q (F0 m pc ls (.int (nI b) :: .int (nI a) :: rest)) :=
  lv_iadd hx hb hdg (by rw [nI_add]; exact k)
theorem xr_isub (hx : p.tables.exec = Jvm.exec) (hb : c.code = cc) {a b : Nat} (hdg : decode cc pc = .ok (.isub, 1)) (h : b ≤ a) (k : W p l e R s m args below meth c H locs cells slots Q (F0 m (pc + 1) ls (.int (nI (a - b)) :: rest))) : W p l e R s m args below meth c H locs cells slots Q (F0 m pc ls (.int (nI b) :: .int (nI a) :: rest)) :=
  lv_isub hx hb hdg (by rw [pk_sub h]; exact k)
theorem xr_imul (hx : p.tables.exec = Jvm.exec) (hb : c.code = cc) {a b : Nat} (hdg : decode cc pc = .ok (.imul, 1)) (k : W p l e R s m args below meth c H locs cells slots Q (F0 m (pc + 1) ls (.int (nI (a * b)) :: rest))) : W p l e R s m args below meth c H locs cells slots Q (F0 m pc ls (.int (nI b) :: .int (nI a) :: rest)) :=
  lv_imul hx hb hdg (by rw [pk_mul]; exact k)
theorem xr_idiv (hx : p.tables.exec = Jvm.exec) (hb : c.code = cc) {a b : Nat} (hdg : decode cc pc = .ok (.idiv, 1)) (ha : a < 2 ^ 31) (h0 : 0 < b) (h1 : b < 2 ^ 31) (k : W p l e R s m args below meth c H locs cells slots Q (F0 m (pc + 1) ls (.int (nI (a / b)) :: rest))) : W p l e R s m args below meth c H locs cells slots Q (F0 m pc ls (.int (nI b) :: .int (nI a) :: rest)) :=
  lv_idiv hx hb hdg (nI_ne0 h0 h1) (by rw [pk_div ha h0 h1]; exact k)
theorem xr_irem (hx : p.tables.exec = Jvm.exec) (hb : c.code = cc) {a b : Nat} (hdg : decode cc pc = .ok (.irem, 1)) (ha : a < 2 ^ 31) (h0 : 0 < b) (h1 : b < 2 ^ 31) (k : W p l e R s m args below meth c H locs cells slots Q (F0 m (pc + 1) ls (.int (nI (a % b)) :: rest))) : W p l e R s m args below meth c H locs cells slots Q (F0 m pc ls (.int (nI b) :: .int (nI a) :: rest)) :=
  lv_irem hx hb hdg (nI_ne0 h0 h1) (by rw [pk_rem ha h0 h1]; exact k)
theorem xr_iand (hx : p.tables.exec = Jvm.exec) (hb : c.code = cc) {a b : Nat} (hdg : decode cc pc = .ok (.iand, 1)) (k : W p l e R s m args below meth c H locs cells slots Q (F0 m (pc + 1) ls (.int (nI (a &&& b)) :: rest))) : W p l e R s m args below meth c H locs cells slots Q (F0 m pc ls (.int (nI b) :: .int (nI a) :: rest)) :=
  lv_iand hx hb hdg (by rw [fa_and]; exact k)
theorem xr_ior (hx : p.tables.exec = Jvm.exec) (hb : c.code = cc) {a b : Nat} (hdg : decode cc pc = .ok (.ior, 1)) (k : W p l e R s m args below meth c H locs cells slots Q (F0 m (pc + 1) ls (.int (nI (a ||| b)) :: rest))) : W p l e R s m args below meth c H locs cells slots Q (F0 m pc ls (.int (nI b) :: .int (nI a) :: rest)) :=
  lv_ior hx hb hdg (by rw [fa_or]; exact k)
theorem zz_sm : ∀ k, k < 31 → ((nI k &&& 31).toBitVec.smod 32).toNat = k := by decide
theorem zz_31 : ∀ k, k < 31 → nI k &&& 31 = nI k := by decide
theorem xr_ishr (hx : p.tables.exec = Jvm.exec) (hb : c.code = cc) {a b : Nat} (hdg : decode cc pc = .ok (.ishr, 1)) (ha : a < 2 ^ 31) (h1 : b < 31) (k : W p l e R s m args below meth c H locs cells slots Q (F0 m (pc + 1) ls (.int (nI (a / 2 ^ b)) :: rest))) : W p l e R s m args below meth c H locs cells slots Q (F0 m pc ls (.int (nI b) :: .int (nI a) :: rest)) :=
  lv_ishr hx hb hdg (by rw [pk_shrN ha (nI b &&& 31) b (zz_sm b h1)]; exact k)
theorem xr_ishl1 (hx : p.tables.exec = Jvm.exec) (hb : c.code = cc) {b : Nat} (hdg : decode cc pc = .ok (.ishl, 1)) (h1 : b < 31) (k : W p l e R s m args below meth c H locs cells slots Q (F0 m (pc + 1) ls (.int (nI (2 ^ b)) :: rest))) : W p l e R s m args below meth c H locs cells slots Q (F0 m pc ls (.int (nI b) :: .int (nI 1) :: rest)) :=
  lv_ishl hx hb hdg (by rw [pk_shlN (nI b &&& 31) b (zz_sm b h1) (by have := Nat.pow_lt_pow_right (show 1 < 2 by decide) (show b < 32 by omega); omega), Nat.one_mul]; exact k)
theorem xr_icmp_ge (hx : p.tables.exec = Jvm.exec) (hb : c.code = cc) {a b : Nat} {off : Int} {tgt : Nat} (hdg : decode cc pc = .ok (.if_icmp .ge off, 3)) (ht : (pc : Int) + off = (tgt : Int)) (ha : a < 2 ^ 31) (h1 : b < 2 ^ 31)
    (kt : b ≤ a → W p l e R s m args below meth c H locs cells slots Q (F0 m tgt ls rest)) (kf : a < b → W p l e R s m args below meth c H locs cells slots Q (F0 m (pc + 3) ls rest)) : W p l e R s m args below meth c H locs cells slots Q (F0 m pc ls (.int (nI b) :: .int (nI a) :: rest)) :=
  lv_icmp_ge hx hb hdg ht (fun h => kt ((nI_leI h1 ha).mp h)) (fun h => kf (Nat.lt_of_not_le fun q => h ((nI_leI h1 ha).mpr q)))
theorem xr_icmp_gt (hx : p.tables.exec = Jvm.exec) (hb : c.code = cc) {a b : Nat} {off : Int} {tgt : Nat} (hdg : decode cc pc = .ok (.if_icmp .gt off, 3)) (ht : (pc : Int) + off = (tgt : Int)) (ha : a < 2 ^ 31) (h1 : b < 2 ^ 31)
    (kt : b < a → W p l e R s m args below meth c H locs cells slots Q (F0 m tgt ls rest)) (kf : a ≤ b → W p l e R s m args below meth c H locs cells slots Q (F0 m (pc + 3) ls rest)) : W p l e R s m args below meth c H locs cells slots Q (F0 m pc ls (.int (nI b) :: .int (nI a) :: rest)) :=
  lv_icmp_gt hx hb hdg ht (fun h => kt ((nI_ltI h1 ha).mp h)) (fun h => kf (Nat.le_of_not_lt fun q => h ((nI_ltI h1 ha).mpr q)))
theorem xr_icmp_lt (hx : p.tables.exec = Jvm.exec) (hb : c.code = cc) {a b : Nat} {off : Int} {tgt : Nat} (hdg : decode cc pc = .ok (.if_icmp .lt off, 3)) (ht : (pc : Int) + off = (tgt : Int)) (ha : a < 2 ^ 31) (h1 : b < 2 ^ 31)
    (kt : a < b → W p l e R s m args below meth c H locs cells slots Q (F0 m tgt ls rest)) (kf : b ≤ a → W p l e R s m args below meth c H locs cells slots Q (F0 m (pc + 3) ls rest)) : W p l e R s m args below meth c H locs cells slots Q (F0 m pc ls (.int (nI b) :: .int (nI a) :: rest)) :=
  lv_icmp_lt hx hb hdg ht (fun h => kt ((nI_ltI ha h1).mp h)) (fun h => kf (Nat.le_of_not_lt fun q => h ((nI_ltI ha h1).mpr q)))
theorem xr_icmp_le (hx : p.tables.exec = Jvm.exec) (hb : c.code = cc) {a b : Nat} {off : Int} {tgt : Nat} (hdg : decode cc pc = .ok (.if_icmp .le off, 3)) (ht : (pc : Int) + off = (tgt : Int)) (ha : a < 2 ^ 31) (h1 : b < 2 ^ 31)
    (kt : a ≤ b → W p l e R s m args below meth c H locs cells slots Q (F0 m tgt ls rest)) (kf : b < a → W p l e R s m args below meth c H locs cells slots Q (F0 m (pc + 3) ls rest)) : W p l e R s m args below meth c H locs cells slots Q (F0 m pc ls (.int (nI b) :: .int (nI a) :: rest)) :=
  lv_icmp_le hx hb hdg ht (fun h => kt ((nI_leI ha h1).mp h)) (fun h => kf (Nat.lt_of_not_le fun q => h ((nI_leI ha h1).mpr q)))
theorem xr_icmp_eq (hx : p.tables.exec = Jvm.exec) (hb : c.code = cc) {a b : Nat} {off : Int} {tgt : Nat} (hdg : decode cc pc = .ok (.if_icmp .eq off, 3)) (ht : (pc : Int) + off = (tgt : Int)) (ha : a < 2 ^ 31) (h1 : b < 2 ^ 31)
    (kt : a = b → W p l e R s m args below meth c H locs cells slots Q (F0 m tgt ls rest)) (kf : a ≠ b → W p l e R s m args below meth c H locs cells slots Q (F0 m (pc + 3) ls rest)) : W p l e R s m args below meth c H locs cells slots Q (F0 m pc ls (.int (nI b) :: .int (nI a) :: rest)) :=
  lv_icmp_eq hx hb hdg ht (fun h => kt (by first | exact (nI_eq ha h1).mp h | exact ((nI_eq h1 ha).mp h).symm)) (fun h => kf (by intro q; subst q; exact h rfl))
theorem xr_icmp_ne (hx : p.tables.exec = Jvm.exec) (hb : c.code = cc) {a b : Nat} {off : Int} {tgt : Nat} (hdg : decode cc pc = .ok (.if_icmp .ne off, 3)) (ht : (pc : Int) + off = (tgt : Int)) (ha : a < 2 ^ 31) (h1 : b < 2 ^ 31)
    (kt : a ≠ b → W p l e R s m args below meth c H locs cells slots Q (F0 m tgt ls rest)) (kf : a = b → W p l e R s m args below meth c H locs cells slots Q (F0 m (pc + 3) ls rest)) : W p l e R s m args below meth c H locs cells slots Q (F0 m pc ls (.int (nI b) :: .int (nI a) :: rest)) :=
  lv_icmp_ne hx hb hdg ht (fun h => kt (by intro q; subst q; exact h rfl)) (fun h => kf ((nI_eq ha h1).mp h))
theorem xr_if_eq (hx : p.tables.exec = Jvm.exec) (hb : c.code = cc) {a : Nat} {off : Int} {tgt : Nat} (hdg : decode cc pc = .ok (.ifCond .eq off, 3)) (ht : (pc : Int) + off = (tgt : Int)) (ha : a < 2 ^ 31)
    (kt : a = 0 → W p l e R s m args below meth c H locs cells slots Q (F0 m tgt ls rest)) (kf : a ≠ 0 → W p l e R s m args below meth c H locs cells slots Q (F0 m (pc + 3) ls rest)) : W p l e R s m args below meth c H locs cells slots Q (F0 m pc ls (.int (nI a) :: rest)) :=
  lv_if_eq hx hb hdg ht (fun h => kt (Classical.byContradiction fun q => nI_ne0 (by omega) ha h)) (fun h => kf (by intro q; subst q; exact h rfl))
theorem xr_if_ne (hx : p.tables.exec = Jvm.exec) (hb : c.code = cc) {a : Nat} {off : Int} {tgt : Nat} (hdg : decode cc pc = .ok (.ifCond .ne off, 3)) (ht : (pc : Int) + off = (tgt : Int)) (ha : a < 2 ^ 31)
    (kt : a ≠ 0 → W p l e R s m args below meth c H locs cells slots Q (F0 m tgt ls rest)) (kf : a = 0 → W p l e R s m args below meth c H locs cells slots Q (F0 m (pc + 3) ls rest)) : W p l e R s m args below meth c H locs cells slots Q (F0 m pc ls (.int (nI a) :: rest)) :=
  lv_if_ne hx hb hdg ht (fun h => kt (by intro q; subst q; exact h rfl)) (fun h => kf (Classical.byContradiction fun q => nI_ne0 (by omega) ha h))
theorem xr_if_le (hx : p.tables.exec = Jvm.exec) (hb : c.code = cc) {a : Nat} {off : Int} {tgt : Nat} (hdg : decode cc pc = .ok (.ifCond .le off, 3)) (ht : (pc : Int) + off = (tgt : Int)) (ha : a < 2 ^ 31)
    (kt : a = 0 → W p l e R s m args below meth c H locs cells slots Q (F0 m tgt ls rest)) (kf : 0 < a → W p l e R s m args below meth c H locs cells slots Q (F0 m (pc + 3) ls rest)) : W p l e R s m args below meth c H locs cells slots Q (F0 m pc ls (.int (nI a) :: rest)) :=
  lv_if_le hx hb hdg ht (fun h => kt (Classical.byContradiction fun q => nI_nle (by omega) ha h)) (fun h => kf (Nat.pos_of_ne_zero fun q => h (by subst q; decide)))
/-- signs of a number less one -/
theorem xr_mlt (hx : p.tables.exec = Jvm.exec) (hb : c.code = cc) {a : Nat} {off : Int} {tgt : Nat} (hdg : decode cc pc = .ok (.ifCond .lt off, 3)) (ht : (pc : Int) + off = (tgt : Int)) (ha : a < 2 ^ 31)
    (kt : a = 0 → W p l e R s m args below meth c H locs cells slots Q (F0 m tgt ls rest)) (kf : 0 < a → W p l e R s m args below meth c H locs cells slots Q (F0 m (pc + 3) ls rest)) : W p l e R s m args below meth c H locs cells slots Q (F0 m pc ls (.int (nI a - 1) :: rest)) :=
  lv_if_lt hx hb hdg ht (fun h => kt ((zz_m1 ha).mp h)) (fun h => kf (Nat.pos_of_ne_zero fun q => h ((zz_m1 ha).mpr q)))
theorem xr_mge (hx : p.tables.exec = Jvm.exec) (hb : c.code = cc) {a : Nat} {off : Int} {tgt : Nat} (hdg : decode cc pc = .ok (.ifCond .ge off, 3)) (ht : (pc : Int) + off = (tgt : Int)) (ha : a < 2 ^ 31)
    (kt : 0 < a → W p l e R s m args below meth c H locs cells slots Q (F0 m tgt ls rest)) (kf : a = 0 → W p l e R s m args below meth c H locs cells slots Q (F0 m (pc + 3) ls rest)) : W p l e R s m args below meth c H locs cells slots Q (F0 m pc ls (.int (nI a - 1) :: rest)) :=
  lv_if_ge hx hb hdg ht (fun h => kt (Nat.pos_of_ne_zero fun q => absurd h (by subst q; decide))) (fun h => kf ((zz_m1 ha).mp (fa_of_nle h)))
theorem xr_iinc (hx : p.tables.exec = Jvm.exec) (hb : c.code = cc) {i nL k a : Nat} {lv lv' : List (Nat × Value)} (hdg : decode cc pc = .ok (.iinc i 1, 3)) (h : lv_has ls nL lv) (hk : lv[k]? = some (i, .int (nI a))) (hn : i < nL) (hl : (i, Value.int (nI (a + 1))) :: lv.filter (fun q => !(q.1 == i) && !(q.1 + 1 == i && q.2.category == 2)) = lv')
    (kk : ∀ ls' : Array Slot, lv_has ls' nL lv' → W p l e R s m args below meth c H locs cells slots Q (F0 m (pc + 3) ls' rest)) : W p l e R s m args below meth c H locs cells slots Q (F0 m pc ls rest) :=
  lv_iinc (v := nI (a + 1)) hx hb hdg h hk (nI_1 a) hn hl kk
/-- arrays of numbers -/
theorem xr_iald (hx : p.tables.exec = Jvm.exec) (hb : c.code = cc) (hK : va_K D cl tys s) (hP : va_P D cl ws H) (q0 t0 : Nat) {cA : ClassId} {n i : Nat} {f : Nat → Nat} (ha : ws[q0]? = some (q, .inl (cA, n, .inl (fun j => nI (f j))))) (ht : tys[t0]? = some (cA, .int)) (hi : i < n) (hn : n < 2 ^ 31) (hdg : decode cc pc = .ok (.iaload, 1))
    (kk : W p l e R s m args below meth c H locs cells slots Q (F0 m (pc + 1) ls (.int (nI (f i)) :: rest))) : W p l e R s m args below meth c H locs cells slots Q (F0 m pc ls (.int (nI i) :: .ref q :: rest)) :=
  va_iald hx hb hK hP q0 t0 ha ht (vp_in_nI hi hn) hdg (by rw [nI_clamp (by omega)]; exact kk)
theorem xr_zald (hx : p.tables.exec = Jvm.exec) (hb : c.code = cc) (hK : va_K D cl tys s) (hP : va_P D cl ws H) (q0 t0 : Nat) {cA : ClassId} {n i : Nat} {f : Nat → Nat} (ha : ws[q0]? = some (q, .inl (cA, n, .inl (fun j => nI (f j))))) (ht : tys[t0]? = some (cA, .boolean)) (hi : i < n) (hn : n < 2 ^ 31) (hdg : decode cc pc = .ok (.baload, 1))
    (kk : W p l e R s m args below meth c H locs cells slots Q (F0 m (pc + 1) ls (.int (nI (f i)) :: rest))) : W p l e R s m args below meth c H locs cells slots Q (F0 m pc ls (.int (nI i) :: .ref q :: rest)) :=
  va_zald hx hb hK hP q0 t0 ha ht (vp_in_nI hi hn) hdg (by rw [nI_clamp (by omega)]; exact kk)
theorem xr_mald (hx : p.tables.exec = Jvm.exec) (hb : c.code = cc) (hK : va_K D cl tys s) (hP : va_P D cl ws H) (q0 t0 : Nat) {cA : ClassId} {n i : Nat} {f : Nat → Nat} (ha : ws[q0]? = some (q, .inl (cA, n, .inl (fun j => nI (f j) - 1)))) (ht : tys[t0]? = some (cA, .int)) (hi : i < n) (hn : n < 2 ^ 31) (hdg : decode cc pc = .ok (.iaload, 1))
    (kk : W p l e R s m args below meth c H locs cells slots Q (F0 m (pc + 1) ls (.int (nI (f i) - 1) :: rest))) : W p l e R s m args below meth c H locs cells slots Q (F0 m pc ls (.int (nI i) :: .ref q :: rest)) :=
  va_iald hx hb hK hP q0 t0 ha ht (vp_in_nI hi hn) hdg (by rw [nI_clamp (by omega)]; exact kk)
theorem zz_upd (f : Nat → Nat) (i x : Nat) : upd (fun j => nI (f j)) i (nI x) = fun j => nI (va_up f i x j) := by
  funext j
  by_cases h : j = i
  · simp [upd, va_up, h]
  · simp [upd, va_up, h]
theorem zz_updm (f : Nat → Nat) (i x : Nat) : upd (fun j => nI (f j) - 1) i (nI x - 1) = fun j => nI (va_up f i x j) - 1 := by
  funext j
  by_cases h : j = i
  · simp [upd, va_up, h]
  · simp [upd, va_up, h]
theorem xr_iast (hx : p.tables.exec = Jvm.exec) (hb : c.code = cc) (hK : va_K D cl tys s) (hP : va_P D cl ws H) (hD : va_D A ws) (hS : va_S A H0 H locs) (q0 t0 : Nat) {cA : ClassId} {n i x : Nat} {f : Nat → Nat} (ha : ws[q0]? = some (q, .inl (cA, n, .inl (fun j => nI (f j))))) (ht : tys[t0]? = some (cA, .int)) (hi : i < n) (hn : n < 2 ^ 31) (hdg : decode cc pc = .ok (.iastore, 1))
    (kk : ∀ (H1 : Heap) (locs1 : List Loc), va_P D cl (ws.set q0 (q, .inl (cA, n, .inl (fun j => nI (va_up f i x j))))) H1 → va_D A (ws.set q0 (q, .inl (cA, n, .inl (fun j => nI (va_up f i x j))))) → va_S A H0 H1 locs1 → W p l e R s m args below meth c H1 locs1 cells slots Q (F0 m (pc + 1) ls rest)) : W p l e R s m args below meth c H locs cells slots Q (F0 m pc ls (.int (nI x) :: .int (nI i) :: .ref q :: rest)) :=
  va_iast hx hb hK hP hD hS q0 t0 ha ht (vp_in_nI hi hn) hdg (by rw [nI_clamp (by omega), zz_upd]; exact kk)
theorem xr_mast (hx : p.tables.exec = Jvm.exec) (hb : c.code = cc) (hK : va_K D cl tys s) (hP : va_P D cl ws H) (hD : va_D A ws) (hS : va_S A H0 H locs) (q0 t0 : Nat) {cA : ClassId} {n i x : Nat} {v : Int32} {f : Nat → Nat} (ha : ws[q0]? = some (q, .inl (cA, n, .inl (fun j => nI (f j) - 1)))) (ht : tys[t0]? = some (cA, .int)) (hi : i < n) (hn : n < 2 ^ 31) (hv : v = nI x - 1) (hdg : decode cc pc = .ok (.iastore, 1))
    (kk : ∀ (H1 : Heap) (locs1 : List Loc), va_P D cl (ws.set q0 (q, .inl (cA, n, .inl (fun j => nI (va_up f i x j) - 1)))) H1 → va_D A (ws.set q0 (q, .inl (cA, n, .inl (fun j => nI (va_up f i x j) - 1)))) → va_S A H0 H1 locs1 → W p l e R s m args below meth c H1 locs1 cells slots Q (F0 m (pc + 1) ls rest)) : W p l e R s m args below meth c H locs cells slots Q (F0 m pc ls (.int v :: .int (nI i) :: .ref q :: rest)) :=
  va_iast hx hb hK hP hD hS q0 t0 ha ht (vp_in_nI hi hn) hdg (by rw [nI_clamp (by omega), hv, zz_updm]; exact kk)
theorem zz_zb : vp_nar .boolean (nI 0) = nI 0 ∧ vp_nar .boolean (nI 1) = nI 1 := by decide
theorem xr_zast (hx : p.tables.exec = Jvm.exec) (hb : c.code = cc) (hK : va_K D cl tys s) (hP : va_P D cl ws H) (hD : va_D A ws) (hS : va_S A H0 H locs) (q0 t0 : Nat) {cA : ClassId} {n i x : Nat} {f : Nat → Nat} (ha : ws[q0]? = some (q, .inl (cA, n, .inl (fun j => nI (f j))))) (ht : tys[t0]? = some (cA, .boolean)) (hi : i < n) (hn : n < 2 ^ 31) (hxx : x < 2) (hdg : decode cc pc = .ok (.bastore, 1))
    (kk : ∀ (H1 : Heap) (locs1 : List Loc), va_P D cl (ws.set q0 (q, .inl (cA, n, .inl (fun j => nI (va_up f i x j))))) H1 → va_D A (ws.set q0 (q, .inl (cA, n, .inl (fun j => nI (va_up f i x j))))) → va_S A H0 H1 locs1 → W p l e R s m args below meth c H1 locs1 cells slots Q (F0 m (pc + 1) ls rest)) : W p l e R s m args below meth c H locs cells slots Q (F0 m pc ls (.int (nI x) :: .int (nI i) :: .ref q :: rest)) :=
  va_zast hx hb hK hP hD hS q0 t0 ha ht (vp_in_nI hi hn) hdg (by
    have e1 : vp_nar .boolean (nI x) = nI x := by
      rcases (show x = 0 ∨ x = 1 by omega) with h | h
      · subst h; exact zz_zb.1
      · subst h; exact zz_zb.2
    rw [nI_clamp (by omega), e1, zz_upd]; exact kk)
end XR
end
section
/-! contracts and calls -/
abbrev vwCl : List vw_C := [(RX0, TX0, 16), (RX1, TX1, 6)]
abbrev rmL (f lo : Nat) : Room := { frames := f, cells := 0, slots := 0, locals := lo }
abbrev tyL (cI cZ : ClassId) : List (ClassId × FieldType) := [(cI, .int), (cZ, .boolean)]
def ct_i (l : Launch) (y : MethodName) (cc : ByteArray) (nL : Nat) (rt : FieldType) (rm : Room) (D : va_G) (tys : List (ClassId × FieldType)) (av : List Value) (w0 : va_W) (S : Type) (post : Int32 → S → Prop) (w1 : S → va_W) : Prop :=
  ∀ sz : Nat, Met l y (ws_ y cc nL (some rt)) rm (va_Pc av (fun U => U.heap.size = sz ∧ va_P D vwCl w0 U.heap ∧ va_K D vwCl tys U ∧ va_D (fun _ => True) w0)) (va_Qi post (fun u t => va_P D vwCl (w1 u) t.heap ∧ va_K D vwCl tys t ∧ va_D (va_A w0 sz) (w1 u)) (va_A w0 sz)) 0 0 (va_A w0 sz)
def ct_v (l : Launch) (y : MethodName) (cc : ByteArray) (nL : Nat) (rm : Room) (D : va_G) (tys : List (ClassId × FieldType)) (av : List Value) (w0 : va_W) (S : Type) (post : S → Prop) (w1 : S → va_W) : Prop :=
  ∀ sz : Nat, Met l y (ws_ y cc nL none) rm (va_Pc av (fun U => U.heap.size = sz ∧ va_P D vwCl w0 U.heap ∧ va_K D vwCl tys U ∧ va_D (fun _ => True) w0)) (va_Qv post (fun u t => va_P D vwCl (w1 u) t.heap ∧ va_K D vwCl tys t ∧ va_D (va_A w0 sz) (w1 u)) (va_A w0 sz)) 0 0 (va_A w0 sz)
theorem ct_i_of {l : Launch} {y : MethodName} {cc : ByteArray} {nL : Nat} {rt : FieldType} {rm : Room} {D : va_G} {tys : List (ClassId × FieldType)} {av : List Value} {w0 : va_W} {S : Type} {post : Int32 → S → Prop} {w1 : S → va_W} (hy : plainName y.cls = true) (hl0 : (lg_sl av).length ≤ nL)
    (body : ∀ (p : Program) (e : Env) (s : State) (m : MethodId) (args : Array Value) (below : List Frame) (meth : Method) (c : Code) (A : Nat → Prop) (Q : State → Prop) (ls : Array Slot),
      CallFix p m c cc nL s args lw_all y.cls → va_K D vwCl tys s → va_P D vwCl w0 s.heap → va_D A w0 → va_S A s.heap s.heap [] → (∀ q, s.heap.size ≤ q → A q) →
      (∀ (r : Int32) (u : S) (H : Heap) (locs : List Loc) (pc : Nat) (ls : Array Slot), decode cc pc = .ok (.ireturn, 1) → narrow rt (.int r) = .int r → post r u → va_P D vwCl (w1 u) H → va_D A (w1 u) → va_S A s.heap H locs → W p l e rm s m args below meth c H locs 0 0 Q (F0 m pc ls [.int r])) →
      lv_has ls nL (lv_args 0 av) → W p l e rm s m args below meth c s.heap [] 0 0 Q (F0 m 0 ls [])) : ct_i l y cc nL rt rm D tys av w0 S post w1 := by
  intro sz
  refine Met.ofW (cc := cc) (maxL := nL) (ret := some rt) hy rfl ?_
  intro p e s m args below meth c s₁ B hml hv
  obtain ⟨rfl, hsz, hP, hK, hD0⟩ := hv
  have hts := atoms_spec (ws := ws_ y cc nL (some rt)) B.pre
  have hts : ∀ w ∈ lw_all, w.before _ s = true := fun w h => hts w (List.mem_cons_of_mem _ h)
  subst hsz
  have hD := hD0.self (sz := s.heap.size)
  have hl := lv_entry av (n := nL) hl0
  rw [lg_entry_eq]
  refine body p e s m _ below meth c (va_A w0 s.heap.size) _ _ ⟨B.exec, B.bytes, hml, findClass_of_methodNamed B.named, hts⟩ hK hP hD va_S.rf (fun q h => Or.inr h) ?_ hl
  intro r u H locs pc ls hdg hn hpost hP1 hD1 hS
  exact W.zret (v := r) B.exec B.bytes B.returns hn (fun t ht hW => ⟨⟨r, u, rfl, hpost, by rw [ht]; exact hP1, va_K.moved hW.alike hK, hD1⟩, hS.F ht⟩) hS.2.2 hdg B.notSynchronized
theorem ct_v_of {l : Launch} {y : MethodName} {cc : ByteArray} {nL : Nat} {rm : Room} {D : va_G} {tys : List (ClassId × FieldType)} {av : List Value} {w0 : va_W} {S : Type} {post : S → Prop} {w1 : S → va_W} (hy : plainName y.cls = true) (hl0 : (lg_sl av).length ≤ nL)
    (body : ∀ (p : Program) (e : Env) (s : State) (m : MethodId) (args : Array Value) (below : List Frame) (meth : Method) (c : Code) (A : Nat → Prop) (Q : State → Prop) (ls : Array Slot),
      CallFix p m c cc nL s args lw_all y.cls → va_K D vwCl tys s → va_P D vwCl w0 s.heap → va_D A w0 → va_S A s.heap s.heap [] → (∀ q, s.heap.size ≤ q → A q) →
      (∀ (u : S) (H : Heap) (locs : List Loc) (pc : Nat) (ls : Array Slot), decode cc pc = .ok (.return_, 1) → post u → va_P D vwCl (w1 u) H → va_D A (w1 u) → va_S A s.heap H locs → W p l e rm s m args below meth c H locs 0 0 Q (F0 m pc ls [])) →
      lv_has ls nL (lv_args 0 av) → W p l e rm s m args below meth c s.heap [] 0 0 Q (F0 m 0 ls [])) : ct_v l y cc nL rm D tys av w0 S post w1 := by
  intro sz
  refine Met.ofW (cc := cc) (maxL := nL) (ret := none) hy rfl ?_
  intro p e s m args below meth c s₁ B hml hv
  obtain ⟨rfl, hsz, hP, hK, hD0⟩ := hv
  have hts := atoms_spec (ws := ws_ y cc nL none) B.pre
  have hts : ∀ w ∈ lw_all, w.before _ s = true := fun w h => hts w (List.mem_cons_of_mem _ h)
  subst hsz
  have hD := hD0.self (sz := s.heap.size)
  have hl := lv_entry av (n := nL) hl0
  rw [lg_entry_eq]
  refine body p e s m _ below meth c (va_A w0 s.heap.size) _ _ ⟨B.exec, B.bytes, hml, findClass_of_methodNamed B.named, hts⟩ hK hP hD va_S.rf (fun q h => Or.inr h) ?_ hl
  intro u H locs pc ls hdg hpost hP1 hD1 hS
  exact W.vret B.exec B.bytes B.returns (fun t ht hW => ⟨⟨u, rfl, hpost, by rw [ht]; exact hP1, va_K.moved hW.alike hK, hD1⟩, hS.F ht⟩) hS.2.2 hdg B.notSynchronized
theorem zz_sub {ws wc : va_W} {is : List Nat} (hC : is.map (fun i => ws[i]?) = wc.map some) : is.filterMap (fun i => ws[i]?) = wc := by
  have h1 : is.filterMap (fun i => ws[i]?) = (is.map (fun i => ws[i]?)).filterMap id := by
    rw [List.filterMap_map]
    rfl
  rw [h1, hC, List.filterMap_map]
  simp
theorem zz_free {A : Nat → Prop} {ws : va_W} {H0 H : Heap} {locs : List Loc} (hD : va_D A ws) (hS : va_S A H0 H locs) (hA : ∀ q, H0.size ≤ q → A q) : ∀ q, va_A ws H.size q → A q := by
  intro q h
  rcases h with ⟨k, e, h⟩ | h
  · exact hD.2 k (q, e) h
  · exact hA q (Nat.le_trans hS.1 h)
section XC
variable {p : Program} {l : Launch} {e : Env} {R : Room} {s : State} {m : MethodId} {args : Array Value} {below : List Frame} {meth : Method} {c : Code} {H : Heap} {locs : List Loc} {cells slots : Nat} {Q : State → Prop}
variable {cc bytes : ByteArray} {pc nL index maxL b : Nat} {ls : Array Slot} {rest st0 As : List Value} {D : va_G} {A : Nat → Prop} {tys : List (ClassId × FieldType)} {ws wc wr : va_W} {own C : String} {y : MethodName} {rt : FieldType} {rm : Room} {S : Type}
theorem cl_i0 {post : Int32 → S → Prop} {w1 : S → va_W} (F : CallFix p m c cc nL s args lw_all own) (hM : ct_i l y bytes maxL rt rm D tys (.ref b :: As) ws S post w1) (hG : GoodIn lw_all (wsV own index C y (ws_ y bytes maxL (some rt))))
    (n : Nat) (hn : As.length = n) (hd : y.cls = C ∧ y.cls ≠ "java/lang/invoke/MethodHandle" ∧ y.cls ≠ "java/lang/invoke/VarHandle" ∧ (parseMethodDescriptor y.desc).map (fun d => d.parameters.length) = some n) (hR : rm.frames + 1 ≤ R.frames ∧ 8 + (maxL + 11) + rm.locals ≤ R.locals) (hrm : rm.cells = 0 ∧ rm.slots = 0) (hf : cells ≤ R.cells ∧ slots ≤ R.slots)
    (hK : va_K D vwCl tys s) (hP : va_P D vwCl ws H) (hD : va_D A ws) (hS : va_S A s.heap H locs) (hA : ∀ q, s.heap.size ≤ q → A q) (q0 ci : Nat) {T : u_T} {N : Nat} {fs : List Value} (hci : vwCl[ci]? = some (C, T, N)) (hq0 : ws[q0]? = some (b, .inr (ci, fs)))
    (hls : ls.size = nL) (hst : st0 = As.reverse ++ .ref b :: rest) (hroom : (rest.map fun v => v.category).sum ≤ 8) (hdg : decode cc pc = .ok (.invokevirtual index, 3))
    (kk : ∀ (r : Int32) (u : S) (H1 : Heap) (locs1 : List Loc), post r u → va_P D vwCl (w1 u) H1 → va_D A (w1 u) → va_S A s.heap H1 locs1 → W p l e R s m args below meth c H1 locs1 cells slots Q (F0 m (pc + 3) ls (.int r :: rest))) :
    W p l e R s m args below meth c H locs cells slots Q (F0 m pc ls st0) := by
  have hFc := zz_free hD hS hA
  refine va_calli (va_runV (As := As) (rest := rest) F (hM H.size) (cwV n F.2.2.2.2 hG rfl hrm.1 hrm.2 hd hR) ⟨fun a U g mk q => by obtain ⟨q0, q1, qP, qK, qD⟩ := q; exact ⟨q0, q1, qP, va_K.moved (u := U) (U := U.calling g mk a) (Vm.Alike.refl U.vm) qK, qD⟩, va_recv hK hP hci hq0, fun U hU hW => ⟨rfl, by rw [hU], by rw [hU]; exact hP, va_K.moved hW.alike hK, hD.weaken (fun _ _ _ _ => trivial)⟩⟩ rfl hn hls hst (lv_room hroom) hdg ⟨hf.1, hf.2⟩) hS (fun q _ h => hFc q h) hFc (fun r u t H1 locs1 ht hvm hw hB hz1 hk1 hS => ?_)
  obtain ⟨hP1, hK1, hD1⟩ := hB
  rw [ht] at hP1
  exact kk r u H1 locs1 hw hP1 (hD1.weaken (fun _ q _ h => hFc q.1 h)) hS
theorem cl_v0 {post : S → Prop} {w1 : S → va_W} (F : CallFix p m c cc nL s args lw_all own) (hM : ct_v l y bytes maxL rm D tys (.ref b :: As) ws S post w1) (hG : GoodIn lw_all (wsV own index C y (ws_ y bytes maxL none)))
    (n : Nat) (hn : As.length = n) (hd : y.cls = C ∧ y.cls ≠ "java/lang/invoke/MethodHandle" ∧ y.cls ≠ "java/lang/invoke/VarHandle" ∧ (parseMethodDescriptor y.desc).map (fun d => d.parameters.length) = some n) (hR : rm.frames + 1 ≤ R.frames ∧ 8 + (maxL + 11) + rm.locals ≤ R.locals) (hrm : rm.cells = 0 ∧ rm.slots = 0) (hf : cells ≤ R.cells ∧ slots ≤ R.slots)
    (hK : va_K D vwCl tys s) (hP : va_P D vwCl ws H) (hD : va_D A ws) (hS : va_S A s.heap H locs) (hA : ∀ q, s.heap.size ≤ q → A q) (q0 ci : Nat) {T : u_T} {N : Nat} {fs : List Value} (hci : vwCl[ci]? = some (C, T, N)) (hq0 : ws[q0]? = some (b, .inr (ci, fs)))
    (hls : ls.size = nL) (hst : st0 = As.reverse ++ .ref b :: rest) (hroom : (rest.map fun v => v.category).sum ≤ 8) (hdg : decode cc pc = .ok (.invokevirtual index, 3))
    (kk : ∀ (u : S) (H1 : Heap) (locs1 : List Loc), post u → va_P D vwCl (w1 u) H1 → va_D A (w1 u) → va_S A s.heap H1 locs1 → W p l e R s m args below meth c H1 locs1 cells slots Q (F0 m (pc + 3) ls rest)) :
    W p l e R s m args below meth c H locs cells slots Q (F0 m pc ls st0) := by
  have hFc := zz_free hD hS hA
  refine va_callv (va_runV (As := As) (rest := rest) F (hM H.size) (cwV n F.2.2.2.2 hG rfl hrm.1 hrm.2 hd hR) ⟨fun a U g mk q => by obtain ⟨q0, q1, qP, qK, qD⟩ := q; exact ⟨q0, q1, qP, va_K.moved (u := U) (U := U.calling g mk a) (Vm.Alike.refl U.vm) qK, qD⟩, va_recv hK hP hci hq0, fun U hU hW => ⟨rfl, by rw [hU], by rw [hU]; exact hP, va_K.moved hW.alike hK, hD.weaken (fun _ _ _ _ => trivial)⟩⟩ rfl hn hls hst (lv_room hroom) hdg ⟨hf.1, hf.2⟩) hS (fun q _ h => hFc q h) hFc (fun u t H1 locs1 ht hvm hw hB hz1 hk1 hS => ?_)
  obtain ⟨hP1, hK1, hD1⟩ := hB
  rw [ht] at hP1
  exact kk u H1 locs1 hw hP1 (hD1.weaken (fun _ q _ h => hFc q.1 h)) hS
theorem cs_i0 {post : Int32 → S → Prop} {w1 : S → va_W} (F : CallFix p m c cc nL s args lw_all own) (hM : ct_i l y bytes maxL rt rm D tys As ws S post w1) (hG : GoodIn lw_all (va_wsS own index y (ws_ y bytes maxL (some rt))))
    (n : Nat) (hn : As.length = n) (hd : y.cls ≠ "java/lang/invoke/MethodHandle" ∧ y.cls ≠ "java/lang/invoke/VarHandle" ∧ (parseMethodDescriptor y.desc).map (fun d => d.parameters.length) = some n) (hR : rm.frames + 1 ≤ R.frames ∧ 8 + (maxL + 11) + rm.locals ≤ R.locals) (hrm : rm.cells = 0 ∧ rm.slots = 0) (hf : cells ≤ R.cells ∧ slots ≤ R.slots)
    (hK : va_K D vwCl tys s) (hP : va_P D vwCl ws H) (hD : va_D A ws) (hS : va_S A s.heap H locs) (hA : ∀ q, s.heap.size ≤ q → A q)
    (hls : ls.size = nL) (hst : st0 = As.reverse ++ rest) (hroom : (rest.map fun v => v.category).sum ≤ 8) (hdg : decode cc pc = .ok (.invokestatic index, 3))
    (kk : ∀ (r : Int32) (u : S) (H1 : Heap) (locs1 : List Loc), post r u → va_P D vwCl (w1 u) H1 → va_D A (w1 u) → va_S A s.heap H1 locs1 → W p l e R s m args below meth c H1 locs1 cells slots Q (F0 m (pc + 3) ls (.int r :: rest))) :
    W p l e R s m args below meth c H locs cells slots Q (F0 m pc ls st0) := by
  have hFc := zz_free hD hS hA
  refine va_calli (va_runS (As := As) (rest := rest) F (hM H.size) (va_cwS n F.2.2.2.2 hG rfl hrm.1 hrm.2 hd hR) ⟨fun a U g mk q => by obtain ⟨q0, q1, qP, qK, qD⟩ := q; exact ⟨q0, q1, qP, va_K.moved (u := U) (U := U.calling g mk a) (Vm.Alike.refl U.vm) qK, qD⟩, fun U hU hW => ⟨rfl, by rw [hU], by rw [hU]; exact hP, va_K.moved hW.alike hK, hD.weaken (fun _ _ _ _ => trivial)⟩⟩ rfl hn hls hst (lv_room hroom) hdg ⟨hf.1, hf.2⟩) hS (fun q _ h => hFc q h) hFc (fun r u t H1 locs1 ht hvm hw hB hz1 hk1 hS => ?_)
  obtain ⟨hP1, hK1, hD1⟩ := hB
  rw [ht] at hP1
  exact kk r u H1 locs1 hw hP1 (hD1.weaken (fun _ q _ h => hFc q.1 h)) hS
theorem cl_iJ {post : Int32 → S → Prop} {w1 : S → va_W} (F : CallFix p m c cc nL s args lw_all own) (hM : ct_i l y bytes maxL rt rm D tys (.ref b :: As) wc S post w1) (hG : GoodIn lw_all (wsV own index C y (ws_ y bytes maxL (some rt))))
    (n : Nat) (hn : As.length = n) (hd : y.cls = C ∧ y.cls ≠ "java/lang/invoke/MethodHandle" ∧ y.cls ≠ "java/lang/invoke/VarHandle" ∧ (parseMethodDescriptor y.desc).map (fun d => d.parameters.length) = some n) (hR : rm.frames + 1 ≤ R.frames ∧ 8 + (maxL + 11) + rm.locals ≤ R.locals) (hrm : rm.cells = 0 ∧ rm.slots = 0) (hf : cells ≤ R.cells ∧ slots ≤ R.slots)
    (hK : va_K D vwCl tys s) (hP : va_P D vwCl ws H) (hD : va_D A ws) (hS : va_S A s.heap H locs) (hA : ∀ q, s.heap.size ≤ q → A q) (isC isR : List Nat) (hC : isC.map (fun i => ws[i]?) = wc.map some) (hRr : isR.map (fun i => ws[i]?) = wr.map some) (hnC : va_nd isC = true) (hnR : va_nd isR = true) (hdis : ∀ i ∈ isR, i ∉ isC)
    (q0 ci : Nat) {T : u_T} {N : Nat} {fs : List Value} (hci : vwCl[ci]? = some (C, T, N)) (hq0 : wc[q0]? = some (b, .inr (ci, fs)))
    (hls : ls.size = nL) (hst : st0 = As.reverse ++ .ref b :: rest) (hroom : (rest.map fun v => v.category).sum ≤ 8) (hdg : decode cc pc = .ok (.invokevirtual index, 3))
    (kk : ∀ (r : Int32) (u : S) (H1 : Heap) (locs1 : List Loc), post r u → va_P D vwCl (wr ++ w1 u) H1 → va_D A (wr ++ w1 u) → va_S A s.heap H1 locs1 → W p l e R s m args below meth c H1 locs1 cells slots Q (F0 m (pc + 3) ls (.int r :: rest))) :
    W p l e R s m args below meth c H locs cells slots Q (F0 m pc ls st0) := by
  have hFc := va_free (wc := wc) hD hS hA isC hC
  have hPc : va_P D vwCl wc H := hP.sub isC (zz_sub hC)
  have hDc : va_D A wc := hD.sub isC hnC hC
  refine va_calli (va_runV (As := As) (rest := rest) F (hM H.size) (cwV n F.2.2.2.2 hG rfl hrm.1 hrm.2 hd hR) ⟨fun a U g mk q => by obtain ⟨q0, q1, qP, qK, qD⟩ := q; exact ⟨q0, q1, qP, va_K.moved (u := U) (U := U.calling g mk a) (Vm.Alike.refl U.vm) qK, qD⟩, va_recv hK hPc hci hq0, fun U hU hW => ⟨rfl, by rw [hU], by rw [hU]; exact hPc, va_K.moved hW.alike hK, hDc.weaken (fun _ _ _ _ => trivial)⟩⟩ rfl hn hls hst (lv_room hroom) hdg ⟨hf.1, hf.2⟩) hS (fun q _ h => hFc q h) hFc (fun r u t H1 locs1 ht hvm hw hB hz1 hk1 hS => ?_)
  obtain ⟨hP1, hK1, hD1⟩ := hB
  rw [ht] at hP1
  obtain ⟨hP2, hD2⟩ := va_join hP hD isC isR hC hRr hnR hdis hk1 hFc hP1 hD1
  exact kk r u H1 locs1 hw hP2 hD2 hS
theorem cl_vJ {post : S → Prop} {w1 : S → va_W} (F : CallFix p m c cc nL s args lw_all own) (hM : ct_v l y bytes maxL rm D tys (.ref b :: As) wc S post w1) (hG : GoodIn lw_all (wsV own index C y (ws_ y bytes maxL none)))
    (n : Nat) (hn : As.length = n) (hd : y.cls = C ∧ y.cls ≠ "java/lang/invoke/MethodHandle" ∧ y.cls ≠ "java/lang/invoke/VarHandle" ∧ (parseMethodDescriptor y.desc).map (fun d => d.parameters.length) = some n) (hR : rm.frames + 1 ≤ R.frames ∧ 8 + (maxL + 11) + rm.locals ≤ R.locals) (hrm : rm.cells = 0 ∧ rm.slots = 0) (hf : cells ≤ R.cells ∧ slots ≤ R.slots)
    (hK : va_K D vwCl tys s) (hP : va_P D vwCl ws H) (hD : va_D A ws) (hS : va_S A s.heap H locs) (hA : ∀ q, s.heap.size ≤ q → A q) (isC isR : List Nat) (hC : isC.map (fun i => ws[i]?) = wc.map some) (hRr : isR.map (fun i => ws[i]?) = wr.map some) (hnC : va_nd isC = true) (hnR : va_nd isR = true) (hdis : ∀ i ∈ isR, i ∉ isC)
    (q0 ci : Nat) {T : u_T} {N : Nat} {fs : List Value} (hci : vwCl[ci]? = some (C, T, N)) (hq0 : wc[q0]? = some (b, .inr (ci, fs)))
    (hls : ls.size = nL) (hst : st0 = As.reverse ++ .ref b :: rest) (hroom : (rest.map fun v => v.category).sum ≤ 8) (hdg : decode cc pc = .ok (.invokevirtual index, 3))
    (kk : ∀ (u : S) (H1 : Heap) (locs1 : List Loc), post u → va_P D vwCl (wr ++ w1 u) H1 → va_D A (wr ++ w1 u) → va_S A s.heap H1 locs1 → W p l e R s m args below meth c H1 locs1 cells slots Q (F0 m (pc + 3) ls rest)) :
    W p l e R s m args below meth c H locs cells slots Q (F0 m pc ls st0) := by
  have hFc := va_free (wc := wc) hD hS hA isC hC
  have hPc : va_P D vwCl wc H := hP.sub isC (zz_sub hC)
  have hDc : va_D A wc := hD.sub isC hnC hC
  refine va_callv (va_runV (As := As) (rest := rest) F (hM H.size) (cwV n F.2.2.2.2 hG rfl hrm.1 hrm.2 hd hR) ⟨fun a U g mk q => by obtain ⟨q0, q1, qP, qK, qD⟩ := q; exact ⟨q0, q1, qP, va_K.moved (u := U) (U := U.calling g mk a) (Vm.Alike.refl U.vm) qK, qD⟩, va_recv hK hPc hci hq0, fun U hU hW => ⟨rfl, by rw [hU], by rw [hU]; exact hPc, va_K.moved hW.alike hK, hDc.weaken (fun _ _ _ _ => trivial)⟩⟩ rfl hn hls hst (lv_room hroom) hdg ⟨hf.1, hf.2⟩) hS (fun q _ h => hFc q h) hFc (fun u t H1 locs1 ht hvm hw hB hz1 hk1 hS => ?_)
  obtain ⟨hP1, hK1, hD1⟩ := hB
  rw [ht] at hP1
  obtain ⟨hP2, hD2⟩ := va_join hP hD isC isR hC hRr hnR hdis hk1 hFc hP1 hD1
  exact kk u H1 locs1 hw hP2 hD2 hS
end XC
/-! the worlds -/
abbrev xw (cI : ClassId) (h : Nat) (r : Nat → Nat) (mk ss mv ht hr nx : Nat) (fw bw kd fr tt st en ln lv cm : Nat → Nat) : va_W :=
  [(h, .inr (0, [.ref (r 0), .ref (r 1), .int (nI mk), .int (nI ss), .int (nI mv), .ref (r 2), .ref (r 3), .ref (r 4), .int (nI ht), .ref (r 5), .ref (r 6), .ref (r 7), .int (nI hr), .int (nI nx), .ref (r 8), .ref (r 9)])),
   (r 0, .inl (cI, 24, .inl (fun j => nI (fw j)))), (r 1, .inl (cI, 24, .inl (fun j => nI (bw j)))), (r 2, .inl (cI, 56, .inl (fun j => nI (kd j)))), (r 3, .inl (cI, 56, .inl (fun j => nI (fr j)))), (r 4, .inl (cI, 56, .inl (fun j => nI (tt j)))),
   (r 5, .inl (cI, 6, .inl (fun j => nI (st j)))), (r 6, .inl (cI, 6, .inl (fun j => nI (en j)))), (r 7, .inl (cI, 224, .inl (fun j => nI (ln j) - 1))), (r 8, .inl (cI, 224, .inl (fun j => nI (lv j)))), (r 9, .inl (cI, 224, .inl (fun j => nI (cm j))))]
abbrev mw (cI cZ : ClassId) (h : Nat) (r : Nat → Nat) (mk hg : Nat) (ed kn nb tb : Nat → Nat) : va_W :=
  [(h, .inr (1, [.ref (r 0), .int (nI mk), .ref (r 1), .ref (r 2), .int (nI hg), .ref (r 3)])),
   (r 0, .inl (cZ, 192, .inl (fun j => nI (ed j)))), (r 1, .inl (cI, 14, .inl (fun j => nI (kn j)))), (r 2, .inl (cI, 14, .inl (fun j => nI (nb j) - 1))), (r 3, .inl (cI, 448, .inl (fun j => nI (tb j))))]
end
section
/-! PathAlgebra: its leaves -/
def inR (n : Int32) (k : Nat) : Prop := ∃ j, j < k ∧ n = nI j
theorem inR_lt {n : Int32} {k : Nat} (hk : k < 2 ^ 31) (h0 : ¬ n < 0) (h1 : n < nI k) : inR n k := by
  obtain ⟨j, hj, e⟩ := nI_of h0
  subst e
  exact ⟨j, (nI_ltI hj hk).mp h1, rfl⟩
theorem inR_le {n : Int32} {k : Nat} (hk : k < 2 ^ 31) (h0 : ¬ n < 0) (h1 : n ≤ nI k) : inR n (k + 1) := by
  obtain ⟨j, hj, e⟩ := nI_of h0
  subst e
  exact ⟨j, by have := (nI_leI hj hk).mp h1; omega, rfl⟩
theorem inR_n0 {n : Int32} {k : Nat} (hk : k < 2 ^ 31) (h0 : n < 0) : ¬ inR n k := by
  rintro ⟨j, hj, e⟩
  subst e
  exact nI_pos (by omega) h0
theorem inR_nlt {n : Int32} {k : Nat} (hk : k < 2 ^ 31) (h1 : ¬ n < nI k) : ¬ inR n k := by
  rintro ⟨j, hj, e⟩
  subst e
  exact h1 (nI_lt hj hk)
theorem inR_nle {n : Int32} {k : Nat} (hk : k < 2 ^ 31) (h1 : ¬ n ≤ nI k) : ¬ inR n (k + 1) := by
  rintro ⟨j, hj, e⟩
  subst e
  exact h1 (nI_le (by omega) hk)
def rf (mk ht t : Nat) : Int32 := if 14 ≤ mk ∨ (t = 0 ∧ 6 ≤ ht) then -3 else if ht < t then -4 else 0
set_option maxHeartbeats 4000000 in
set_option maxRecDepth 100000 in
theorem X_badNode (l : Launch) (D : va_G) (cI cZ : ClassId) (w0 : va_W) (n : Int32) :
    ct_i l yX0_badNode cX0_badNode 1 .boolean (rmL 0 0) D (tyL cI cZ) [.int n] (w0) (Unit) (fun x _ => (x = nI 0 ∧ inR n 8) ∨ (x = nI 1 ∧ ¬ inR n 8)) (fun _ => w0) := by
  refine ct_i_of (by decide) (Nat.le_of_ble_eq_true rfl) ?_
  intro p e s m args below meth c A Q ls F hK hP hD hS hA hend hl
  have F : CallFix p m c cX0_badNode 1 s args lw_all RX0 := F
  obtain ⟨hx, hb, hml, hown, hts⟩ := id F
  have hl : lv_has ls 1 [(0, .int n)] := hl
  refine lv_iload_n hx hb dX0_badNode_0 rfl (lv_at hl 0 rfl) ?_
  refine lv_if_lt (tgt := 10) hx hb dX0_badNode_1 (by decide) (fun c1 => ?_) (fun c1 => ?_)
  · refine lv_iconst (v := nI 1) hx hb dX0_badNode_10 (by decide) ?_
    refine lv_goto (tgt := 15) hx hb dX0_badNode_11 (by decide) ?_
    exact hend (nI 1) () _ _ _ _ dX0_badNode_15 rfl (Or.inr ⟨rfl, by first | exact inR_n0 (by decide) c1 | exact inR_nlt (by decide) c7⟩) hP hD hS
  · refine lv_iload_n hx hb dX0_badNode_4 rfl (lv_at hl 0 rfl) ?_
    refine lv_bipush (v := nI 8) hx hb dX0_badNode_5 (by decide) ?_
    refine lv_icmp_lt (tgt := 14) hx hb dX0_badNode_7 (by decide) (fun c7 => ?_) (fun c7 => ?_)
    · refine lv_iconst (v := nI 0) hx hb dX0_badNode_14 (by decide) ?_
      exact hend (nI 0) () _ _ _ _ dX0_badNode_15 rfl (Or.inl ⟨rfl, inR_lt (by decide) c1 c7⟩) hP hD hS
    · refine lv_iconst (v := nI 1) hx hb dX0_badNode_10 (by decide) ?_
      refine lv_goto (tgt := 15) hx hb dX0_badNode_11 (by decide) ?_
      exact hend (nI 1) () _ _ _ _ dX0_badNode_15 rfl (Or.inr ⟨rfl, by first | exact inR_n0 (by decide) c1 | exact inR_nlt (by decide) c7⟩) hP hD hS
set_option maxHeartbeats 4000000 in
set_option maxRecDepth 100000 in
theorem X_badLabel (l : Launch) (D : va_G) (cI cZ : ClassId) (w0 : va_W) (n : Int32) :
    ct_i l yX0_badLabel cX0_badLabel 1 .boolean (rmL 0 0) D (tyL cI cZ) [.int n] (w0) (Unit) (fun x _ => (x = nI 0 ∧ inR n 3) ∨ (x = nI 1 ∧ ¬ inR n 3)) (fun _ => w0) := by
  refine ct_i_of (by decide) (Nat.le_of_ble_eq_true rfl) ?_
  intro p e s m args below meth c A Q ls F hK hP hD hS hA hend hl
  have F : CallFix p m c cX0_badLabel 1 s args lw_all RX0 := F
  obtain ⟨hx, hb, hml, hown, hts⟩ := id F
  have hl : lv_has ls 1 [(0, .int n)] := hl
  refine lv_iload_n hx hb dX0_badLabel_0 rfl (lv_at hl 0 rfl) ?_
  refine lv_if_lt (tgt := 9) hx hb dX0_badLabel_1 (by decide) (fun c1 => ?_) (fun c1 => ?_)
  · refine lv_iconst (v := nI 1) hx hb dX0_badLabel_9 (by decide) ?_
    refine lv_goto (tgt := 14) hx hb dX0_badLabel_10 (by decide) ?_
    exact hend (nI 1) () _ _ _ _ dX0_badLabel_14 rfl (Or.inr ⟨rfl, by first | exact inR_n0 (by decide) c1 | exact inR_nle (by decide) c6⟩) hP hD hS
  · refine lv_iload_n hx hb dX0_badLabel_4 rfl (lv_at hl 0 rfl) ?_
    refine lv_iconst (v := nI 2) hx hb dX0_badLabel_5 (by decide) ?_
    refine lv_icmp_le (tgt := 13) hx hb dX0_badLabel_6 (by decide) (fun c6 => ?_) (fun c6 => ?_)
    · refine lv_iconst (v := nI 0) hx hb dX0_badLabel_13 (by decide) ?_
      exact hend (nI 0) () _ _ _ _ dX0_badLabel_14 rfl (Or.inl ⟨rfl, inR_le (by decide) c1 c6⟩) hP hD hS
    · refine lv_iconst (v := nI 1) hx hb dX0_badLabel_9 (by decide) ?_
      refine lv_goto (tgt := 14) hx hb dX0_badLabel_10 (by decide) ?_
      exact hend (nI 1) () _ _ _ _ dX0_badLabel_14 rfl (Or.inr ⟨rfl, by first | exact inR_n0 (by decide) c1 | exact inR_nle (by decide) c6⟩) hP hD hS
set_option maxHeartbeats 4000000 in
set_option maxRecDepth 100000 in
theorem X_addMove (l : Launch) (D : va_G) (cI cZ : ClassId) (h : Nat) (r : Nat → Nat) (mk ss mv ht hr nx : Nat) (fw bw kd fr tt st en ln lv cm : Nat → Nat) (k u0 v0 : Nat) (hmv : mv < 56) :
    ct_v l yX0_addMove cX0_addMove 4 (rmL 0 0) D (tyL cI cZ) [.ref h, .int (nI k), .int (nI u0), .int (nI v0)] (xw cI h r mk ss mv ht hr nx fw bw kd fr tt st en ln lv cm) (Unit) (fun _ => True) (fun _ => xw cI h r mk ss (mv + 1) ht hr nx fw bw (va_up kd mv k) (va_up fr mv u0) (va_up tt mv v0) st en ln lv cm) := by
  refine ct_v_of (by decide) (Nat.le_of_ble_eq_true rfl) ?_
  intro p e s m args below meth c A Q ls F hK hP hD hS hA hend hl
  have F : CallFix p m c cX0_addMove 4 s args lw_all RX0 := F
  obtain ⟨hx, hb, hml, hown, hts⟩ := id F
  have hl : lv_has ls 4 [(0, .ref h), (1, .int (nI k)), (2, .int (nI u0)), (3, .int (nI v0))] := hl
  refine lv_aload_n hx hb dX0_addMove_0 rfl (lv_at hl 0 rfl) ?_
  refine va_get (D := D) (ci := 0) (v := .ref (r 2)) (C := RX0) (T := TX0) (N := 16) hx hb hts in_X0 hown hK hP 0 rfl rfl 5 (by decide) (hts _ q35) (fun _ h9 => h9) rfl dX0_addMove_1 ?_
  refine lv_aload_n hx hb dX0_addMove_4 rfl (lv_at hl 0 rfl) ?_
  refine va_get (D := D) (ci := 0) (v := .int (nI mv)) (C := RX0) (T := TX0) (N := 16) hx hb hts in_X0 hown hK hP 0 rfl rfl 4 (by decide) (hts _ q34) (fun _ h9 => h9) rfl dX0_addMove_5 ?_
  refine lv_iload_n hx hb dX0_addMove_8 rfl (lv_at hl 1 rfl) ?_
  refine xr_iast (f := kd) hx hb hK hP hD hS 3 0 rfl rfl (by omega) (by decide) dX0_addMove_9 (fun H locs hP hD hS => ?_)
  have hP : va_P D vwCl (xw cI h r mk ss mv ht hr nx fw bw (va_up kd mv k) fr tt st en ln lv cm) H := hP
  have hD : va_D A (xw cI h r mk ss mv ht hr nx fw bw (va_up kd mv k) fr tt st en ln lv cm) := hD
  refine lv_aload_n hx hb dX0_addMove_10 rfl (lv_at hl 0 rfl) ?_
  refine va_get (D := D) (ci := 0) (v := .ref (r 3)) (C := RX0) (T := TX0) (N := 16) hx hb hts in_X0 hown hK hP 0 rfl rfl 6 (by decide) (hts _ q36) (fun _ h9 => h9) rfl dX0_addMove_11 ?_
  refine lv_aload_n hx hb dX0_addMove_14 rfl (lv_at hl 0 rfl) ?_
  refine va_get (D := D) (ci := 0) (v := .int (nI mv)) (C := RX0) (T := TX0) (N := 16) hx hb hts in_X0 hown hK hP 0 rfl rfl 4 (by decide) (hts _ q34) (fun _ h9 => h9) rfl dX0_addMove_15 ?_
  refine lv_iload_n hx hb dX0_addMove_18 rfl (lv_at hl 2 rfl) ?_
  refine xr_iast (f := fr) hx hb hK hP hD hS 4 0 rfl rfl (by omega) (by decide) dX0_addMove_19 (fun H locs hP hD hS => ?_)
  have hP : va_P D vwCl (xw cI h r mk ss mv ht hr nx fw bw (va_up kd mv k) (va_up fr mv u0) tt st en ln lv cm) H := hP
  have hD : va_D A (xw cI h r mk ss mv ht hr nx fw bw (va_up kd mv k) (va_up fr mv u0) tt st en ln lv cm) := hD
  refine lv_aload_n hx hb dX0_addMove_20 rfl (lv_at hl 0 rfl) ?_
  refine va_get (D := D) (ci := 0) (v := .ref (r 4)) (C := RX0) (T := TX0) (N := 16) hx hb hts in_X0 hown hK hP 0 rfl rfl 7 (by decide) (hts _ q37) (fun _ h9 => h9) rfl dX0_addMove_21 ?_
  refine lv_aload_n hx hb dX0_addMove_24 rfl (lv_at hl 0 rfl) ?_
  refine va_get (D := D) (ci := 0) (v := .int (nI mv)) (C := RX0) (T := TX0) (N := 16) hx hb hts in_X0 hown hK hP 0 rfl rfl 4 (by decide) (hts _ q34) (fun _ h9 => h9) rfl dX0_addMove_25 ?_
  refine lv_iload_n hx hb dX0_addMove_28 rfl (lv_at hl 3 rfl) ?_
  refine xr_iast (f := tt) hx hb hK hP hD hS 5 0 rfl rfl (by omega) (by decide) dX0_addMove_29 (fun H locs hP hD hS => ?_)
  have hP : va_P D vwCl (xw cI h r mk ss mv ht hr nx fw bw (va_up kd mv k) (va_up fr mv u0) (va_up tt mv v0) st en ln lv cm) H := hP
  have hD : va_D A (xw cI h r mk ss mv ht hr nx fw bw (va_up kd mv k) (va_up fr mv u0) (va_up tt mv v0) st en ln lv cm) := hD
  refine lv_aload_n hx hb dX0_addMove_30 rfl (lv_at hl 0 rfl) ?_
  refine lv_dup hx hb dX0_addMove_31 rfl ?_
  refine va_get (D := D) (ci := 0) (v := .int (nI mv)) (C := RX0) (T := TX0) (N := 16) hx hb hts in_X0 hown hK hP 0 rfl rfl 4 (by decide) (hts _ q34) (fun _ h9 => h9) rfl dX0_addMove_32 ?_
  refine lv_iconst (v := nI 1) hx hb dX0_addMove_35 (by decide) ?_
  refine xr_iadd hx hb dX0_addMove_36 ?_
  refine va_put (D := D) (ci := 0) (v := .int (nI (mv + 1))) (ty := .int) (C := RX0) (T := TX0) (N := 16) hx hb hts in_X0 tyX0 tyX0_ok nmX0 hown hK hP hD hS 0 rfl rfl 4 (by decide) (hts _ q34) (fun _ h9 => h9) rfl (by decide +kernel) rfl rfl (Nat.le_of_ble_eq_true rfl) dX0_addMove_37 (fun H locs hP hD hS => ?_)
  have hP : va_P D vwCl (xw cI h r mk ss (mv + 1) ht hr nx fw bw (va_up kd mv k) (va_up fr mv u0) (va_up tt mv v0) st en ln lv cm) H := hP
  have hD : va_D A (xw cI h r mk ss (mv + 1) ht hr nx fw bw (va_up kd mv k) (va_up fr mv u0) (va_up tt mv v0) st en ln lv cm) := hD
  exact hend () _ _ _ _ dX0_addMove_40 trivial hP hD hS
set_option maxHeartbeats 4000000 in
set_option maxRecDepth 100000 in
theorem X_refusal (l : Launch) (D : va_G) (cI cZ : ClassId) (h : Nat) (r : Nat → Nat) (mk ss mv ht hr nx : Nat) (fw bw kd fr tt st en ln lv cm : Nat → Nat) (t : Nat) (hmk : mk < 2 ^ 31) (hht : ht < 2 ^ 31) (htt : t < 2 ^ 31) :
    ct_i l yX0_refusal cX0_refusal 2 .int (rmL 0 0) D (tyL cI cZ) [.ref h, .int (nI t)] (xw cI h r mk ss mv ht hr nx fw bw kd fr tt st en ln lv cm) (Unit) (fun x _ => x = rf mk ht t) (fun _ => xw cI h r mk ss mv ht hr nx fw bw kd fr tt st en ln lv cm) := by
  refine ct_i_of (by decide) (Nat.le_of_ble_eq_true rfl) ?_
  intro p e s m args below meth c A Q ls F hK hP hD hS hA hend hl
  have F : CallFix p m c cX0_refusal 2 s args lw_all RX0 := F
  obtain ⟨hx, hb, hml, hown, hts⟩ := id F
  have hl : lv_has ls 2 [(0, .ref h), (1, .int (nI t))] := hl
  refine lv_aload_n hx hb dX0_refusal_0 rfl (lv_at hl 0 rfl) ?_
  refine va_get (D := D) (ci := 0) (v := .int (nI mk)) (C := RX0) (T := TX0) (N := 16) hx hb hts in_X0 hown hK hP 0 rfl rfl 2 (by decide) (hts _ q32) (fun _ h9 => h9) rfl dX0_refusal_1 ?_
  refine lv_bipush (v := nI 14) hx hb dX0_refusal_4 (by decide) ?_
  refine xr_icmp_ge (tgt := 22) hx hb dX0_refusal_6 (by decide) (by omega) (by omega) (fun c6 => ?_) (fun c6 => ?_)
  · refine lv_bipush (v := (-3)) hx hb dX0_refusal_22 (by decide) ?_
    exact hend ((-3)) () _ _ _ _ dX0_refusal_24 rfl (by unfold rf; rw [if_pos (by omega)]) hP hD hS
  · refine lv_iload_n hx hb dX0_refusal_9 rfl (lv_at hl 1 rfl) ?_
    refine xr_if_ne (tgt := 25) hx hb dX0_refusal_10 (by decide) (by omega) (fun c10 => ?_) (fun c10 => ?_)
    · refine lv_aload_n hx hb dX0_refusal_25 rfl (lv_at hl 0 rfl) ?_
      refine va_get (D := D) (ci := 0) (v := .int (nI ht)) (C := RX0) (T := TX0) (N := 16) hx hb hts in_X0 hown hK hP 0 rfl rfl 8 (by decide) (hts _ q38) (fun _ h9 => h9) rfl dX0_refusal_26 ?_
      refine lv_iload_n hx hb dX0_refusal_29 rfl (lv_at hl 1 rfl) ?_
      refine xr_icmp_ge (tgt := 38) hx hb dX0_refusal_30 (by decide) (by omega) (by omega) (fun c30 => ?_) (fun c30 => ?_)
      · refine lv_iconst (v := nI 0) hx hb dX0_refusal_38 (by decide) ?_
        exact hend (nI 0) () _ _ _ _ dX0_refusal_39 rfl (by unfold rf; rw [if_neg (by omega), if_neg (by omega)]; rfl) hP hD hS
      · refine lv_bipush (v := (-4)) hx hb dX0_refusal_33 (by decide) ?_
        refine lv_goto (tgt := 39) hx hb dX0_refusal_35 (by decide) ?_
        exact hend ((-4)) () _ _ _ _ dX0_refusal_39 rfl (by unfold rf; rw [if_neg (by omega), if_pos (by omega)]) hP hD hS
    · refine lv_aload_n hx hb dX0_refusal_13 rfl (lv_at hl 0 rfl) ?_
      refine va_get (D := D) (ci := 0) (v := .int (nI ht)) (C := RX0) (T := TX0) (N := 16) hx hb hts in_X0 hown hK hP 0 rfl rfl 8 (by decide) (hts _ q38) (fun _ h9 => h9) rfl dX0_refusal_14 ?_
      refine lv_bipush (v := nI 6) hx hb dX0_refusal_17 (by decide) ?_
      refine xr_icmp_lt (tgt := 25) hx hb dX0_refusal_19 (by decide) (by omega) (by omega) (fun c19 => ?_) (fun c19 => ?_)
      · refine lv_aload_n hx hb dX0_refusal_25 rfl (lv_at hl 0 rfl) ?_
        refine va_get (D := D) (ci := 0) (v := .int (nI ht)) (C := RX0) (T := TX0) (N := 16) hx hb hts in_X0 hown hK hP 0 rfl rfl 8 (by decide) (hts _ q38) (fun _ h9 => h9) rfl dX0_refusal_26 ?_
        refine lv_iload_n hx hb dX0_refusal_29 rfl (lv_at hl 1 rfl) ?_
        refine xr_icmp_ge (tgt := 38) hx hb dX0_refusal_30 (by decide) (by omega) (by omega) (fun c30 => ?_) (fun c30 => ?_)
        · refine lv_iconst (v := nI 0) hx hb dX0_refusal_38 (by decide) ?_
          exact hend (nI 0) () _ _ _ _ dX0_refusal_39 rfl (by unfold rf; rw [if_neg (by omega), if_neg (by omega)]; rfl) hP hD hS
        · refine lv_bipush (v := (-4)) hx hb dX0_refusal_33 (by decide) ?_
          refine lv_goto (tgt := 39) hx hb dX0_refusal_35 (by decide) ?_
          exact hend ((-4)) () _ _ _ _ dX0_refusal_39 rfl (by unfold rf; rw [if_neg (by omega), if_pos (by omega)]) hP hD hS
      · refine lv_bipush (v := (-3)) hx hb dX0_refusal_22 (by decide) ?_
        exact hend ((-3)) () _ _ _ _ dX0_refusal_24 rfl (by unfold rf; rw [if_pos (by omega)]) hP hD hS
set_option maxHeartbeats 4000000 in
set_option maxRecDepth 100000 in
theorem X_isComing (l : Launch) (D : va_G) (cI cZ : ClassId) (h : Nat) (r : Nat → Nat) (mk ss mv ht hr nx : Nat) (fw bw kd fr tt st en ln lv cm : Nat → Nat) (pr : Nat) (hpr : pr < 2 ^ 31) (hnx : nx ≤ 224) (hcm : ∀ i, i < nx → cm i < 2 ^ 31) :
    ct_i l yX0_isComing cX0_isComing 3 .boolean (rmL 0 0) D (tyL cI cZ) [.ref h, .int (nI pr)] (xw cI h r mk ss mv ht hr nx fw bw kd fr tt st en ln lv cm) (Unit) (fun x _ => (x = nI 1 ∧ ∃ i, i < nx ∧ cm i = pr) ∨ (x = nI 0 ∧ ∀ i, i < nx → cm i ≠ pr)) (fun _ => xw cI h r mk ss mv ht hr nx fw bw kd fr tt st en ln lv cm) := by
  refine ct_i_of (by decide) (Nat.le_of_ble_eq_true rfl) ?_
  intro p e s m args below meth c A Q ls F hK hP hD hS hA hend hl
  have F : CallFix p m c cX0_isComing 3 s args lw_all RX0 := F
  obtain ⟨hx, hb, hml, hown, hts⟩ := id F
  have hl : lv_has ls 3 [(0, .ref h), (1, .int (nI pr))] := hl
  refine lv_iconst (v := nI 0) hx hb dX0_isComing_0 (by decide) ?_
  refine lv_istore_n (lv' := [(2, .int (nI 0)), (0, .ref h), (1, .int (nI pr))]) hx hb dX0_isComing_1 rfl hl (by decide) rfl (fun ls hl => ?_)
  have loop : ∀ (n : Nat) (i : Nat) (H : Heap) (locs : List Loc) (ls : Array Slot), (i ≤ nx) → (nx + 1 ≤ i + n) → (∀ j, j < i → cm j ≠ pr) → va_P D vwCl (xw cI h r mk ss mv ht hr nx fw bw kd fr tt st en ln lv cm) H → va_D A (xw cI h r mk ss mv ht hr nx fw bw kd fr tt st en ln lv cm) → va_S A s.heap H locs → lv_has ls 3 [(0, .ref h), (1, .int (nI pr)), (2, .int (nI i))] → W p l e (rmL 0 0) s m args below meth c H locs 0 0 Q (F0 m 2 ls []) := by
    intro n
    induction n with
    | zero =>
      intro i H locs ls hi hn hno hP hD hS hl
      omega
    | succ n ih =>
      intro i H locs ls hi hn hno hP hD hS hl
      refine lv_iload_n hx hb dX0_isComing_2 rfl (lv_at hl 2 rfl) ?_
      refine lv_aload_n hx hb dX0_isComing_3 rfl (lv_at hl 0 rfl) ?_
      refine va_get (D := D) (ci := 0) (v := .int (nI nx)) (C := RX0) (T := TX0) (N := 16) hx hb hts in_X0 hown hK hP 0 rfl rfl 13 (by decide) (hts _ q43) (fun _ h9 => h9) rfl dX0_isComing_4 ?_
      refine xr_icmp_ge (tgt := 28) hx hb dX0_isComing_7 (by decide) (by omega) (by omega) (fun c7 => ?_) (fun c7 => ?_)
      · refine lv_iconst (v := nI 0) hx hb dX0_isComing_28 (by decide) ?_
        exact hend (nI 0) () _ _ _ _ dX0_isComing_29 rfl (Or.inr ⟨rfl, fun j hj => hno j (by omega)⟩) hP hD hS
      · refine lv_aload_n hx hb dX0_isComing_10 rfl (lv_at hl 0 rfl) ?_
        refine va_get (D := D) (ci := 0) (v := .ref (r 9)) (C := RX0) (T := TX0) (N := 16) hx hb hts in_X0 hown hK hP 0 rfl rfl 15 (by decide) (hts _ q45) (fun _ h9 => h9) rfl dX0_isComing_11 ?_
        refine lv_iload_n hx hb dX0_isComing_14 rfl (lv_at hl 2 rfl) ?_
        refine xr_iald (f := cm) hx hb hK hP 10 0 rfl rfl (by omega) (by decide) dX0_isComing_15 ?_
        refine lv_iload_n hx hb dX0_isComing_16 rfl (lv_at hl 1 rfl) ?_
        refine xr_icmp_ne (tgt := 22) hx hb dX0_isComing_17 (by decide) (hcm i c7) hpr (fun c17 => ?_) (fun c17 => ?_)
        · refine xr_iinc (lv' := [(2, .int (nI (i + 1))), (0, .ref h), (1, .int (nI pr))]) (k := 2) hx hb dX0_isComing_22 hl rfl (by decide) rfl (fun ls hl => ?_)
          refine lv_goto (tgt := 2) hx hb dX0_isComing_25 (by decide) ?_
          exact ih (i + 1) _ _ _ (by omega) (by omega) (fun j hj => by by_cases q : j = i; (· rw [q]; exact c17); (· exact hno j (by omega))) hP hD hS (lv_sub hl [1, 2, 0] rfl)
        · refine lv_iconst (v := nI 1) hx hb dX0_isComing_20 (by decide) ?_
          exact hend (nI 1) () _ _ _ _ dX0_isComing_21 rfl (Or.inl ⟨rfl, i, c7, c17⟩) hP hD hS
  exact loop (nx + 1) 0 _ _ _ (by omega) (by omega) (fun j hj => absurd hj (Nat.not_lt_zero j)) hP hD hS (lv_sub hl [1, 2, 0] rfl)
set_option maxHeartbeats 4000000 in
set_option maxRecDepth 100000 in
theorem X_reachHere (l : Launch) (D : va_G) (cI cZ : ClassId) (h : Nat) (r : Nat → Nat) (mk ss mv ht hr nx : Nat) (fw bw kd fr tt st en ln lv cm : Nat → Nat) (t a d : Nat) (htt : t * 8 + a < 224) (hln : ln (t * 8 + a) < 2 ^ 31) (hhr : ln (t * 8 + a) = 0 → hr < 224) :
    ct_v l yX0_reachHere cX0_reachHere 5 (rmL 0 0) D (tyL cI cZ) [.ref h, .int (nI t), .int (nI a), .int (nI d)] (xw cI h r mk ss mv ht hr nx fw bw kd fr tt st en ln lv cm) (Nat × (Nat → Nat) × (Nat → Nat)) (fun u => (ln (t * 8 + a) ≠ 0 ∧ u = (hr, ln, lv)) ∨ (ln (t * 8 + a) = 0 ∧ u = (hr + 1, va_up ln (t * 8 + a) (d + 1), va_up lv hr (t * 8 + a)))) (fun u => xw cI h r mk ss mv ht u.1 nx fw bw kd fr tt st en u.2.1 u.2.2 cm) := by
  refine ct_v_of (by decide) (Nat.le_of_ble_eq_true rfl) ?_
  intro p e s m args below meth c A Q ls F hK hP hD hS hA hend hl
  have F : CallFix p m c cX0_reachHere 5 s args lw_all RX0 := F
  obtain ⟨hx, hb, hml, hown, hts⟩ := id F
  have hl : lv_has ls 5 [(0, .ref h), (1, .int (nI t)), (2, .int (nI a)), (3, .int (nI d))] := hl
  refine lv_iload_n hx hb dX0_reachHere_0 rfl (lv_at hl 1 rfl) ?_
  refine lv_bipush (v := nI 8) hx hb dX0_reachHere_1 (by decide) ?_
  refine xr_imul hx hb dX0_reachHere_3 ?_
  refine lv_iload_n hx hb dX0_reachHere_4 rfl (lv_at hl 2 rfl) ?_
  refine xr_iadd hx hb dX0_reachHere_5 ?_
  refine lv_istore (lv' := [(4, .int (nI ((t * 8) + a))), (0, .ref h), (1, .int (nI t)), (2, .int (nI a)), (3, .int (nI d))]) hx hb dX0_reachHere_6 hl (by decide) rfl (fun ls hl => ?_)
  refine lv_aload_n hx hb dX0_reachHere_8 rfl (lv_at hl 1 rfl) ?_
  refine va_get (D := D) (ci := 0) (v := .ref (r 7)) (C := RX0) (T := TX0) (N := 16) hx hb hts in_X0 hown hK hP 0 rfl rfl 11 (by decide) (hts _ q41) (fun _ h9 => h9) rfl dX0_reachHere_9 ?_
  refine lv_iload hx hb dX0_reachHere_12 (lv_at hl 0 rfl) ?_
  refine xr_mald (f := ln) hx hb hK hP 8 0 rfl rfl (by omega) (by decide) dX0_reachHere_14 ?_
  refine xr_mlt (tgt := 19) hx hb dX0_reachHere_15 (by decide) hln (fun c15 => ?_) (fun c15 => ?_)
  · refine lv_aload_n hx hb dX0_reachHere_19 rfl (lv_at hl 1 rfl) ?_
    refine va_get (D := D) (ci := 0) (v := .ref (r 7)) (C := RX0) (T := TX0) (N := 16) hx hb hts in_X0 hown hK hP 0 rfl rfl 11 (by decide) (hts _ q41) (fun _ h9 => h9) rfl dX0_reachHere_20 ?_
    refine lv_iload hx hb dX0_reachHere_23 (lv_at hl 0 rfl) ?_
    refine lv_iload_n hx hb dX0_reachHere_25 rfl (lv_at hl 4 rfl) ?_
    refine xr_mast (f := ln) (x := d + 1) hx hb hK hP hD hS 8 0 rfl rfl (by omega) (by decide) (zz_m1s _).symm dX0_reachHere_26 (fun H locs hP hD hS => ?_)
    have hP : va_P D vwCl (xw cI h r mk ss mv ht hr nx fw bw kd fr tt st en (va_up ln ((t * 8) + a) (d + 1)) lv cm) H := hP
    have hD : va_D A (xw cI h r mk ss mv ht hr nx fw bw kd fr tt st en (va_up ln ((t * 8) + a) (d + 1)) lv cm) := hD
    refine lv_aload_n hx hb dX0_reachHere_27 rfl (lv_at hl 1 rfl) ?_
    refine va_get (D := D) (ci := 0) (v := .ref (r 8)) (C := RX0) (T := TX0) (N := 16) hx hb hts in_X0 hown hK hP 0 rfl rfl 14 (by decide) (hts _ q44) (fun _ h9 => h9) rfl dX0_reachHere_28 ?_
    refine lv_aload_n hx hb dX0_reachHere_31 rfl (lv_at hl 1 rfl) ?_
    refine va_get (D := D) (ci := 0) (v := .int (nI hr)) (C := RX0) (T := TX0) (N := 16) hx hb hts in_X0 hown hK hP 0 rfl rfl 12 (by decide) (hts _ q42) (fun _ h9 => h9) rfl dX0_reachHere_32 ?_
    refine lv_iload hx hb dX0_reachHere_35 (lv_at hl 0 rfl) ?_
    refine xr_iast (f := lv) hx hb hK hP hD hS 9 0 rfl rfl (hhr c15) (by decide) dX0_reachHere_37 (fun H locs hP hD hS => ?_)
    have hP : va_P D vwCl (xw cI h r mk ss mv ht hr nx fw bw kd fr tt st en (va_up ln ((t * 8) + a) (d + 1)) (va_up lv hr ((t * 8) + a)) cm) H := hP
    have hD : va_D A (xw cI h r mk ss mv ht hr nx fw bw kd fr tt st en (va_up ln ((t * 8) + a) (d + 1)) (va_up lv hr ((t * 8) + a)) cm) := hD
    refine lv_aload_n hx hb dX0_reachHere_38 rfl (lv_at hl 1 rfl) ?_
    refine lv_dup hx hb dX0_reachHere_39 rfl ?_
    refine va_get (D := D) (ci := 0) (v := .int (nI hr)) (C := RX0) (T := TX0) (N := 16) hx hb hts in_X0 hown hK hP 0 rfl rfl 12 (by decide) (hts _ q42) (fun _ h9 => h9) rfl dX0_reachHere_40 ?_
    refine lv_iconst (v := nI 1) hx hb dX0_reachHere_43 (by decide) ?_
    refine xr_iadd hx hb dX0_reachHere_44 ?_
    refine va_put (D := D) (ci := 0) (v := .int (nI (hr + 1))) (ty := .int) (C := RX0) (T := TX0) (N := 16) hx hb hts in_X0 tyX0 tyX0_ok nmX0 hown hK hP hD hS 0 rfl rfl 12 (by decide) (hts _ q42) (fun _ h9 => h9) rfl (by decide +kernel) rfl rfl (Nat.le_of_ble_eq_true rfl) dX0_reachHere_45 (fun H locs hP hD hS => ?_)
    have hP : va_P D vwCl (xw cI h r mk ss mv ht (hr + 1) nx fw bw kd fr tt st en (va_up ln ((t * 8) + a) (d + 1)) (va_up lv hr ((t * 8) + a)) cm) H := hP
    have hD : va_D A (xw cI h r mk ss mv ht (hr + 1) nx fw bw kd fr tt st en (va_up ln ((t * 8) + a) (d + 1)) (va_up lv hr ((t * 8) + a)) cm) := hD
    exact hend (hr + 1, va_up ln (t * 8 + a) (d + 1), va_up lv hr (t * 8 + a)) _ _ _ _ dX0_reachHere_48 (Or.inr ⟨c15, rfl⟩) hP hD hS
  · exact hend (hr, ln, lv) _ _ _ _ dX0_reachHere_18 (Or.inl ⟨by omega, rfl⟩) hP hD hS
set_option maxHeartbeats 4000000 in
set_option maxRecDepth 100000 in
theorem X_lengthTo (l : Launch) (D : va_G) (cI cZ : ClassId) (h : Nat) (r : Nat → Nat) (mk ss mv ht hr nx : Nat) (fw bw kd fr tt st en ln lv cm : Nat → Nat) (b : Nat) (hht : ht ≤ 6) (hen : 0 < ht → en (ht - 1) * 8 + b < 224) :
    ct_i l yX0_lengthTo cX0_lengthTo 2 .int (rmL 0 0) D (tyL cI cZ) [.ref h, .int (nI b)] (xw cI h r mk ss mv ht hr nx fw bw kd fr tt st en ln lv cm) (Unit) (fun x _ => x = nI (if ht = 0 then 0 else ln (en (ht - 1) * 8 + b)) - 1) (fun _ => xw cI h r mk ss mv ht hr nx fw bw kd fr tt st en ln lv cm) := by
  refine ct_i_of (by decide) (Nat.le_of_ble_eq_true rfl) ?_
  intro p e s m args below meth c A Q ls F hK hP hD hS hA hend hl
  have F : CallFix p m c cX0_lengthTo 2 s args lw_all RX0 := F
  obtain ⟨hx, hb, hml, hown, hts⟩ := id F
  have hl : lv_has ls 2 [(0, .ref h), (1, .int (nI b))] := hl
  refine lv_aload_n hx hb dX0_lengthTo_0 rfl (lv_at hl 0 rfl) ?_
  refine va_get (D := D) (ci := 0) (v := .int (nI ht)) (C := RX0) (T := TX0) (N := 16) hx hb hts in_X0 hown hK hP 0 rfl rfl 8 (by decide) (hts _ q38) (fun _ h9 => h9) rfl dX0_lengthTo_1 ?_
  refine xr_if_ne (tgt := 11) hx hb dX0_lengthTo_4 (by decide) (by omega) (fun c4 => ?_) (fun c4 => ?_)
  · refine lv_aload_n hx hb dX0_lengthTo_11 rfl (lv_at hl 0 rfl) ?_
    refine va_get (D := D) (ci := 0) (v := .ref (r 7)) (C := RX0) (T := TX0) (N := 16) hx hb hts in_X0 hown hK hP 0 rfl rfl 11 (by decide) (hts _ q41) (fun _ h9 => h9) rfl dX0_lengthTo_12 ?_
    refine lv_aload_n hx hb dX0_lengthTo_15 rfl (lv_at hl 0 rfl) ?_
    refine va_get (D := D) (ci := 0) (v := .ref (r 6)) (C := RX0) (T := TX0) (N := 16) hx hb hts in_X0 hown hK hP 0 rfl rfl 10 (by decide) (hts _ q40) (fun _ h9 => h9) rfl dX0_lengthTo_16 ?_
    refine lv_aload_n hx hb dX0_lengthTo_19 rfl (lv_at hl 0 rfl) ?_
    refine va_get (D := D) (ci := 0) (v := .int (nI ht)) (C := RX0) (T := TX0) (N := 16) hx hb hts in_X0 hown hK hP 0 rfl rfl 8 (by decide) (hts _ q38) (fun _ h9 => h9) rfl dX0_lengthTo_20 ?_
    refine lv_iconst (v := nI 1) hx hb dX0_lengthTo_23 (by decide) ?_
    refine xr_isub hx hb dX0_lengthTo_24 (by omega) ?_
    refine xr_iald (f := en) hx hb hK hP 7 0 rfl rfl (by omega) (by decide) dX0_lengthTo_25 ?_
    refine lv_bipush (v := nI 8) hx hb dX0_lengthTo_26 (by decide) ?_
    refine xr_imul hx hb dX0_lengthTo_28 ?_
    refine lv_iload_n hx hb dX0_lengthTo_29 rfl (lv_at hl 1 rfl) ?_
    refine xr_iadd hx hb dX0_lengthTo_30 ?_
    refine xr_mald (f := ln) hx hb hK hP 8 0 rfl rfl (hen (by omega)) (by decide) dX0_lengthTo_31 ?_
    exact hend (nI (ln (((en (ht - 1)) * 8) + b)) - 1) () _ _ _ _ dX0_lengthTo_32 rfl (by rw [if_neg (by omega)]) hP hD hS
  · refine lv_iconst (v := (-1)) hx hb dX0_lengthTo_7 (by decide) ?_
    refine lv_goto (tgt := 32) hx hb dX0_lengthTo_8 (by decide) ?_
    exact hend ((-1)) () _ _ _ _ dX0_lengthTo_32 rfl (by rw [if_pos (by omega)]; decide) hP hD hS
set_option maxHeartbeats 4000000 in
set_option maxRecDepth 100000 in
theorem X_clear (l : Launch) (D : va_G) (cI cZ : ClassId) (h : Nat) (r : Nat → Nat) (mk ss mv ht hr nx : Nat) (fw bw kd fr tt st en ln lv cm : Nat → Nat) :
    ct_v l yX0_clear cX0_clear 1 (rmL 0 0) D (tyL cI cZ) [.ref h] (xw cI h r mk ss mv ht hr nx fw bw kd fr tt st en ln lv cm) (Unit) (fun _ => True) (fun _ => xw cI h r 0 0 0 0 hr nx fw bw kd fr tt st en ln lv cm) := by
  refine ct_v_of (by decide) (Nat.le_of_ble_eq_true rfl) ?_
  intro p e s m args below meth c A Q ls F hK hP hD hS hA hend hl
  have F : CallFix p m c cX0_clear 1 s args lw_all RX0 := F
  obtain ⟨hx, hb, hml, hown, hts⟩ := id F
  have hl : lv_has ls 1 [(0, .ref h)] := hl
  refine lv_aload_n hx hb dX0_clear_0 rfl (lv_at hl 0 rfl) ?_
  refine lv_iconst (v := nI 0) hx hb dX0_clear_1 (by decide) ?_
  refine va_put (D := D) (ci := 0) (v := .int (nI 0)) (ty := .int) (C := RX0) (T := TX0) (N := 16) hx hb hts in_X0 tyX0 tyX0_ok nmX0 hown hK hP hD hS 0 rfl rfl 2 (by decide) (hts _ q32) (fun _ h9 => h9) rfl (by decide +kernel) rfl rfl (Nat.le_of_ble_eq_true rfl) dX0_clear_2 (fun H locs hP hD hS => ?_)
  have hP : va_P D vwCl (xw cI h r 0 ss mv ht hr nx fw bw kd fr tt st en ln lv cm) H := hP
  have hD : va_D A (xw cI h r 0 ss mv ht hr nx fw bw kd fr tt st en ln lv cm) := hD
  refine lv_aload_n hx hb dX0_clear_5 rfl (lv_at hl 0 rfl) ?_
  refine lv_iconst (v := nI 0) hx hb dX0_clear_6 (by decide) ?_
  refine va_put (D := D) (ci := 0) (v := .int (nI 0)) (ty := .int) (C := RX0) (T := TX0) (N := 16) hx hb hts in_X0 tyX0 tyX0_ok nmX0 hown hK hP hD hS 0 rfl rfl 3 (by decide) (hts _ q33) (fun _ h9 => h9) rfl (by decide +kernel) rfl rfl (Nat.le_of_ble_eq_true rfl) dX0_clear_7 (fun H locs hP hD hS => ?_)
  have hP : va_P D vwCl (xw cI h r 0 0 mv ht hr nx fw bw kd fr tt st en ln lv cm) H := hP
  have hD : va_D A (xw cI h r 0 0 mv ht hr nx fw bw kd fr tt st en ln lv cm) := hD
  refine lv_aload_n hx hb dX0_clear_10 rfl (lv_at hl 0 rfl) ?_
  refine lv_iconst (v := nI 0) hx hb dX0_clear_11 (by decide) ?_
  refine va_put (D := D) (ci := 0) (v := .int (nI 0)) (ty := .int) (C := RX0) (T := TX0) (N := 16) hx hb hts in_X0 tyX0 tyX0_ok nmX0 hown hK hP hD hS 0 rfl rfl 4 (by decide) (hts _ q34) (fun _ h9 => h9) rfl (by decide +kernel) rfl rfl (Nat.le_of_ble_eq_true rfl) dX0_clear_12 (fun H locs hP hD hS => ?_)
  have hP : va_P D vwCl (xw cI h r 0 0 0 ht hr nx fw bw kd fr tt st en ln lv cm) H := hP
  have hD : va_D A (xw cI h r 0 0 0 ht hr nx fw bw kd fr tt st en ln lv cm) := hD
  refine lv_aload_n hx hb dX0_clear_15 rfl (lv_at hl 0 rfl) ?_
  refine lv_iconst (v := nI 0) hx hb dX0_clear_16 (by decide) ?_
  refine va_put (D := D) (ci := 0) (v := .int (nI 0)) (ty := .int) (C := RX0) (T := TX0) (N := 16) hx hb hts in_X0 tyX0 tyX0_ok nmX0 hown hK hP hD hS 0 rfl rfl 8 (by decide) (hts _ q38) (fun _ h9 => h9) rfl (by decide +kernel) rfl rfl (Nat.le_of_ble_eq_true rfl) dX0_clear_17 (fun H locs hP hD hS => ?_)
  have hP : va_P D vwCl (xw cI h r 0 0 0 0 hr nx fw bw kd fr tt st en ln lv cm) H := hP
  have hD : va_D A (xw cI h r 0 0 0 0 hr nx fw bw kd fr tt st en ln lv cm) := hD
  exact hend () _ _ _ _ dX0_clear_20 trivial hP hD hS
set_option maxHeartbeats 4000000 in
set_option maxRecDepth 100000 in
theorem X_steps (l : Launch) (D : va_G) (cI cZ : ClassId) (h : Nat) (r : Nat → Nat) (mk ss mv ht hr nx : Nat) (fw bw kd fr tt st en ln lv cm : Nat → Nat) :
    ct_i l yX0_steps cX0_steps 1 .int (rmL 0 0) D (tyL cI cZ) [.ref h] (xw cI h r mk ss mv ht hr nx fw bw kd fr tt st en ln lv cm) (Unit) (fun x _ => x = nI mk) (fun _ => xw cI h r mk ss mv ht hr nx fw bw kd fr tt st en ln lv cm) := by
  refine ct_i_of (by decide) (Nat.le_of_ble_eq_true rfl) ?_
  intro p e s m args below meth c A Q ls F hK hP hD hS hA hend hl
  have F : CallFix p m c cX0_steps 1 s args lw_all RX0 := F
  obtain ⟨hx, hb, hml, hown, hts⟩ := id F
  have hl : lv_has ls 1 [(0, .ref h)] := hl
  refine lv_aload_n hx hb dX0_steps_0 rfl (lv_at hl 0 rfl) ?_
  refine va_get (D := D) (ci := 0) (v := .int (nI mk)) (C := RX0) (T := TX0) (N := 16) hx hb hts in_X0 hown hK hP 0 rfl rfl 2 (by decide) (hts _ q32) (fun _ h9 => h9) rfl dX0_steps_1 ?_
  exact hend (nI mk) () _ _ _ _ dX0_steps_4 rfl rfl hP hD hS
end
section
/-! what the search's methods keep -/
theorem tb_iff (x b : Nat) : x / 2 ^ b &&& 1 = 1 ↔ x.testBit b = true := by
  rw [Nat.and_one_is_mod, Nat.testBit_eq_decide_div_mod_eq]
  simp
theorem tb_lt (x b : Nat) : x / 2 ^ b &&& 1 < 2 ^ 31 := by
  rw [Nat.and_one_is_mod]
  omega
def xKC (Z : Nat → Prop) (t mask nx : Nat) (ln cm : Nat → Nat) (u : Nat × (Nat → Nat)) : Prop :=
  xCM Z u.1 u.2 ∧ nx ≤ u.1 ∧ (∀ i, i < nx → u.2 i = cm i) ∧ ∀ b, b < 8 → mask.testBit b = true → ln (t * 8 + b) = 0 → ∃ i, i < u.1 ∧ u.2 i = t * 8 + b
def XGR (G : GR) (fw bw : Nat → Nat) : Prop :=
  GB G ∧ (∀ j, j < 24 → fw j < 256) ∧ (∀ j, j < 24 → bw j < 256) ∧ (∀ l a b, l < 3 → a < 8 → (G l a b ↔ b < 8 ∧ (fw (l * 8 + a)).testBit b = true)) ∧ (∀ l a b, l < 3 → b < 8 → (G l a b ↔ a < 8 ∧ (bw (l * 8 + b)).testBit a = true))
def XOK (G : GR) (mk ss mv ht : Nat) (fw bw kd fr tt st en : Nat → Nat) : Prop :=
  XGR G fw bw ∧ mv ≤ 56 ∧ ss ≤ 28 ∧ ht ≤ 6 ∧ mk ≤ 14 ∧ (∀ m, m < mv → kd m < 15 ∧ fr m < ss ∧ tt m < ss) ∧ (∀ h, h < ht → st h < ss ∧ en h < ss)
def xFO (G : GR) (PP : Nat → Nat → Prop) (k a v d hr nx : Nat) (ln lv cm : Nat → Nat) (u : Nat × Nat × (Nat → Nat) × (Nat → Nat) × (Nat → Nat)) : Prop :=
  xLV PP d u.1 u.2.2.1 u.2.2.2.1 ∧ xCM (fun q => PP q (d + 1)) u.2.1 u.2.2.2.2 ∧ xGr d hr u.1 nx u.2.1 ln u.2.2.1 lv u.2.2.2.1 cm u.2.2.2.2 ∧ xDn G k a v u.2.1 u.2.2.1 u.2.2.2.2
theorem xLV.ln_le {PP : Nat → Nat → Prop} {D hr : Nat} {ln lv : Nat → Nat} (h : xLV PP D hr ln lv) {p : Nat} (hp : p < 224) : ln p ≤ D + 1 := by
  rcases Nat.eq_zero_or_pos (ln p) with q | q
  · omega
  · have := (h.2.1 p (ln p - 1) hp (by omega)).2
    omega
theorem fol_silent {G : GR} {PP : Nat → Nat → Prop} {k a v d hr nx : Nat} {ln lv cm : Nat → Nat} (hL : xLV PP d hr ln lv) (hC : xCM (fun q => PP q (d + 1)) nx cm) (ha : a < 8) (hv : v < 28) (hk : k = 6 ∨ k = 7 + a) (hPP : ∀ w b, Sk G k a w b → PP (v * 8 + b) (d + w))
    {u : Nat × (Nat → Nat) × (Nat → Nat)} (hu : (ln (v * 8 + a) ≠ 0 ∧ u = (hr, ln, lv)) ∨ (ln (v * 8 + a) = 0 ∧ u = (hr + 1, va_up ln (v * 8 + a) (d + 1), va_up lv hr (v * 8 + a)))) : xFO G PP k a v d hr nx ln lv cm (u.1, nx, u.2.1, u.2.2, cm) := by
  have hsk : ∀ w b, Sk G k a w b → b = a := by
    intro w b h
    rcases h with h | h | h | h
    · exact h.2.1
    · exact h.2.1
    · omega
    · omega
  have hk2 : Sk G k a 0 a := by
    rcases hk with h | h
    · exact Or.inl ⟨h, rfl, rfl⟩
    · exact Or.inr (Or.inl ⟨h, rfl, rfl⟩)
  rcases hu with ⟨h0, rfl⟩ | ⟨h0, rfl⟩
  · refine ⟨hL, hC, xGr.rf d hr nx ln lv cm, ?_⟩
    intro w b hs
    left
    rw [hsk w b hs]
    exact h0
  · refine ⟨hL.add (by omega) h0 (hPP 0 a hk2), hC, xLV.addG h0, ?_⟩
    intro w b hs
    left
    rw [hsk w b hs]
    show va_up ln (v * 8 + a) (d + 1) (v * 8 + a) ≠ 0
    rw [up_s]
    omega
theorem fol_edge {G : GR} {PP : Nat → Nat → Prop} {k a v d hr nx mask : Nat} {ln lv cm : Nat → Nat} (hL : xLV PP d hr ln lv) {u : Nat × (Nat → Nat)} (hu : xKC (fun q => PP q (d + 1)) v mask nx ln cm u) (hb : ∀ w b, Sk G k a w b → w = 1 ∧ b < 8 ∧ mask.testBit b = true) : xFO G PP k a v d hr nx ln lv cm (hr, u.1, ln, lv, u.2) := by
  obtain ⟨h1, h2, h3, h4⟩ := hu
  refine ⟨hL, h1, ⟨fun _ _ => rfl, fun _ h => Or.inl h, Nat.le_refl _, fun _ _ => rfl, h2, h3⟩, ?_⟩
  intro w b hs
  obtain ⟨b1, b2, b3⟩ := hb w b hs
  by_cases q : ln (v * 8 + b) = 0
  · exact Or.inr ⟨b1, h4 b b2 b3 q⟩
  · exact Or.inl q
theorem fol_none {G : GR} {PP : Nat → Nat → Prop} {k a v d hr nx : Nat} {ln lv cm : Nat → Nat} (hL : xLV PP d hr ln lv) (hC : xCM (fun q => PP q (d + 1)) nx cm) (h6 : 6 ≤ k) (hk : k ≠ 6) (hk7 : k ≠ 7 + a) : xFO G PP k a v d hr nx ln lv cm (hr, nx, ln, lv, cm) := by
  refine ⟨hL, hC, xGr.rf d hr nx ln lv cm, ?_⟩
  intro w b h
  rcases h with h | h | h | h
  · exact absurd h.1 hk
  · exact absurd h.1 hk7
  · omega
  · omega
def xDone (G : GR) (mv i nx : Nat) (kd fr tt ln lv cm : Nat → Nat) : Prop := ∀ j, j < i → ∀ m, m < mv → fr m = lv j / 8 → xDn G (kd m) (lv j % 8) (tt m) nx ln cm
theorem xDone.gr {G : GR} {mv i D hr hr' nx nx' : Nat} {kd fr tt ln ln' lv lv' cm cm' : Nat → Nat} (h : xDone G mv i nx kd fr tt ln lv cm) (g : xGr D hr hr' nx nx' ln ln' lv lv' cm cm') (hi : i ≤ hr) : xDone G mv i nx' kd fr tt ln' lv' cm' := by
  intro j hj m hm e
  rw [g.2.2.2.1 j (by omega)] at e ⊢
  exact (h j hj m hm e).gr g
end
section
/-! PathAlgebra: the search -/
set_option maxHeartbeats 4000000 in
set_option maxRecDepth 100000 in
theorem X_keepComing (l : Launch) (D : va_G) (cI cZ : ClassId) (h : Nat) (r : Nat → Nat) (mk ss mv ht hr nx : Nat) (fw bw kd fr tt st en ln lv cm : Nat → Nat) (Z : Nat → Prop) (t mask : Nat) (ht28 : t < 28) (hmask : mask < 256) (hln : ∀ p, p < 224 → ln p < 2 ^ 31) (hC0 : xCM Z nx cm) (hZ : ∀ b, b < 8 → mask.testBit b = true → Z (t * 8 + b)) :
    ct_v l yX0_keepComing cX0_keepComing 6 (rmL 1 22) D (tyL cI cZ) [.ref h, .int (nI t), .int (nI mask)] (xw cI h r mk ss mv ht hr nx fw bw kd fr tt st en ln lv cm) (Nat × (Nat → Nat)) (fun u => xKC Z t mask nx ln cm u) (fun u => xw cI h r mk ss mv ht hr u.1 fw bw kd fr tt st en ln lv u.2) := by
  refine ct_v_of (by decide) (Nat.le_of_ble_eq_true rfl) ?_
  intro p e s m args below meth c A Q ls F hK hP hD hS hA hend hl
  have F : CallFix p m c cX0_keepComing 6 s args lw_all RX0 := F
  obtain ⟨hx, hb, hml, hown, hts⟩ := id F
  have hl : lv_has ls 6 [(0, .ref h), (1, .int (nI t)), (2, .int (nI mask))] := hl
  refine lv_iconst (v := nI 0) hx hb dX0_keepComing_0 (by decide) ?_
  refine lv_istore_n (lv' := [(3, .int (nI 0)), (0, .ref h), (1, .int (nI t)), (2, .int (nI mask))]) hx hb dX0_keepComing_1 rfl hl (by decide) rfl (fun ls hl => ?_)
  have loop : ∀ (n : Nat) (b : Nat) (nx1 : Nat) (cm1 : Nat → Nat) (H : Heap) (locs : List Loc) (ls : Array Slot), (b ≤ 8) → (9 ≤ b + n) → (xCM Z nx1 cm1) → (nx ≤ nx1) → (∀ i, i < nx → cm1 i = cm i) → (∀ j, j < b → mask.testBit j = true → ln (t * 8 + j) = 0 → ∃ i, i < nx1 ∧ cm1 i = t * 8 + j) → va_P D vwCl (xw cI h r mk ss mv ht hr nx1 fw bw kd fr tt st en ln lv cm1) H → va_D A (xw cI h r mk ss mv ht hr nx1 fw bw kd fr tt st en ln lv cm1) → va_S A s.heap H locs → lv_has ls 6 [(0, .ref h), (1, .int (nI t)), (2, .int (nI mask)), (3, .int (nI b))] → W p l e (rmL 1 22) s m args below meth c H locs 0 0 Q (F0 m 2 ls []) := by
    intro n
    induction n with
    | zero =>
      intro b nx1 cm1 H locs ls hi hn hC hge hpre hall hP hD hS hl
      omega
    | succ n ih =>
      intro b nx1 cm1 H locs ls hi hn hC hge hpre hall hP hD hS hl
      have hC1 := hC.1
      refine lv_iload_n hx hb dX0_keepComing_2 rfl (lv_at hl 3 rfl) ?_
      refine lv_bipush (v := nI 8) hx hb dX0_keepComing_3 (by decide) ?_
      refine xr_icmp_ge (tgt := 85) hx hb dX0_keepComing_5 (by decide) (by omega) (by omega) (fun c5 => ?_) (fun c5 => ?_)
      · exact hend (nx1, cm1) _ _ _ _ dX0_keepComing_85 ⟨hC, hge, hpre, fun j hj tb l0 => hall j (by omega) tb l0⟩ hP hD hS
      · refine lv_iload_n hx hb dX0_keepComing_8 rfl (lv_at hl 1 rfl) ?_
        refine lv_bipush (v := nI 8) hx hb dX0_keepComing_9 (by decide) ?_
        refine xr_imul hx hb dX0_keepComing_11 ?_
        refine lv_iload_n hx hb dX0_keepComing_12 rfl (lv_at hl 3 rfl) ?_
        refine xr_iadd hx hb dX0_keepComing_13 ?_
        refine lv_istore (lv' := [(4, .int (nI ((t * 8) + b))), (0, .ref h), (1, .int (nI t)), (2, .int (nI mask)), (3, .int (nI b))]) hx hb dX0_keepComing_14 hl (by decide) rfl (fun ls hl => ?_)
        refine lv_iload_n hx hb dX0_keepComing_16 rfl (lv_at hl 3 rfl) ?_
        refine lv_iload_n hx hb dX0_keepComing_17 rfl (lv_at hl 4 rfl) ?_
        refine xr_ishr hx hb dX0_keepComing_18 (by omega) (by omega) ?_
        refine lv_iconst (v := nI 1) hx hb dX0_keepComing_19 (by decide) ?_
        refine xr_iand hx hb dX0_keepComing_20 ?_
        refine lv_iconst (v := nI 1) hx hb dX0_keepComing_21 (by decide) ?_
        refine xr_icmp_ne (tgt := 79) hx hb dX0_keepComing_22 (by decide) (tb_lt mask b) (by decide) (fun c22 => ?_) (fun c22 => ?_)
        · refine xr_iinc (lv' := [(3, .int (nI (b + 1))), (4, .int (nI ((t * 8) + b))), (0, .ref h), (1, .int (nI t)), (2, .int (nI mask))]) (k := 4) hx hb dX0_keepComing_79 hl rfl (by decide) rfl (fun ls hl => ?_)
          refine lv_goto (tgt := 2) hx hb dX0_keepComing_82 (by decide) ?_
          exact ih (b + 1) nx1 cm1 _ _ _ (by omega) (by omega) hC hge hpre (fun j hj tb l0 => by by_cases q : j = b; (· subst q; first | exact absurd ((tb_iff _ _).mpr tb) c22 | omega | exact hC.full c42 (by omega) | exact hw); (· exact hall j (by omega) tb l0)) hP hD hS (lv_sub hl [2, 3, 4, 0] rfl)
        · refine lv_aload_n hx hb dX0_keepComing_25 rfl (lv_at hl 1 rfl) ?_
          refine va_get (D := D) (ci := 0) (v := .ref (r 7)) (C := RX0) (T := TX0) (N := 16) hx hb hts in_X0 hown hK hP 0 rfl rfl 11 (by decide) (hts _ q41) (fun _ h9 => h9) rfl dX0_keepComing_26 ?_
          refine lv_iload hx hb dX0_keepComing_29 (lv_at hl 0 rfl) ?_
          refine xr_mald (f := ln) hx hb hK hP 8 0 rfl rfl (by omega) (by decide) dX0_keepComing_31 ?_
          refine xr_mge (tgt := 79) hx hb dX0_keepComing_32 (by decide) (hln _ (by omega)) (fun c32 => ?_) (fun c32 => ?_)
          · refine xr_iinc (lv' := [(3, .int (nI (b + 1))), (4, .int (nI ((t * 8) + b))), (0, .ref h), (1, .int (nI t)), (2, .int (nI mask))]) (k := 4) hx hb dX0_keepComing_79 hl rfl (by decide) rfl (fun ls hl => ?_)
            refine lv_goto (tgt := 2) hx hb dX0_keepComing_82 (by decide) ?_
            exact ih (b + 1) nx1 cm1 _ _ _ (by omega) (by omega) hC hge hpre (fun j hj tb l0 => by by_cases q : j = b; (· subst q; first | exact absurd ((tb_iff _ _).mpr tb) c22 | omega | exact hC.full c42 (by omega) | exact hw); (· exact hall j (by omega) tb l0)) hP hD hS (lv_sub hl [2, 3, 4, 0] rfl)
          · refine lv_aload_n hx hb dX0_keepComing_35 rfl (lv_at hl 1 rfl) ?_
            refine va_get (D := D) (ci := 0) (v := .int (nI nx1)) (C := RX0) (T := TX0) (N := 16) hx hb hts in_X0 hown hK hP 0 rfl rfl 13 (by decide) (hts _ q43) (fun _ h9 => h9) rfl dX0_keepComing_36 ?_
            refine lv_sipush (v := nI 224) hx hb dX0_keepComing_39 (by decide) ?_
            refine xr_icmp_ge (tgt := 79) hx hb dX0_keepComing_42 (by decide) (by omega) (by omega) (fun c42 => ?_) (fun c42 => ?_)
            · refine xr_iinc (lv' := [(3, .int (nI (b + 1))), (4, .int (nI ((t * 8) + b))), (0, .ref h), (1, .int (nI t)), (2, .int (nI mask))]) (k := 4) hx hb dX0_keepComing_79 hl rfl (by decide) rfl (fun ls hl => ?_)
              refine lv_goto (tgt := 2) hx hb dX0_keepComing_82 (by decide) ?_
              exact ih (b + 1) nx1 cm1 _ _ _ (by omega) (by omega) hC hge hpre (fun j hj tb l0 => by by_cases q : j = b; (· subst q; first | exact absurd ((tb_iff _ _).mpr tb) c22 | omega | exact hC.full c42 (by omega) | exact hw); (· exact hall j (by omega) tb l0)) hP hD hS (lv_sub hl [2, 3, 4, 0] rfl)
            · refine lv_aload_n hx hb dX0_keepComing_45 rfl (lv_at hl 1 rfl) ?_
              refine lv_iload hx hb dX0_keepComing_46 (lv_at hl 0 rfl) ?_
              refine cl_i0 (As := [.int (nI ((t * 8) + b))]) (rest := []) (C := RX0) F (X_isComing l D cI cZ h r mk ss mv ht hr nx1 fw bw kd fr tt st en ln lv cm1 ((t * 8) + b) (by omega) (by omega) (fun i hi => by have := (hC.2.1 i hi).1; omega)) (lw_V q154 q156 qs8 q20 q157) 1 rfl (by decide +kernel) ⟨Nat.le_of_ble_eq_true rfl, Nat.le_of_ble_eq_true rfl⟩ ⟨rfl, rfl⟩ ⟨Nat.zero_le _, Nat.zero_le _⟩ hK hP hD hS hA 0 0 rfl rfl hl.1 rfl (Nat.le_of_ble_eq_true rfl) dX0_keepComing_48 (fun r1 u H locs hw hP hD hS => ?_)
              have hP : va_P D vwCl (xw cI h r mk ss mv ht hr nx1 fw bw kd fr tt st en ln lv cm1) H := hP
              have hD : va_D A (xw cI h r mk ss mv ht hr nx1 fw bw kd fr tt st en ln lv cm1) := hD
              rcases hw with ⟨rfl, hw⟩ | ⟨rfl, hw⟩
              · refine lv_istore (lv' := [(5, .int (nI 1)), (4, .int (nI ((t * 8) + b))), (0, .ref h), (1, .int (nI t)), (2, .int (nI mask)), (3, .int (nI b))]) hx hb dX0_keepComing_51 hl (by decide) rfl (fun ls hl => ?_)
                refine lv_iload hx hb dX0_keepComing_53 (lv_at hl 0 rfl) ?_
                refine xr_if_ne (tgt := 79) hx hb dX0_keepComing_55 (by decide) (by omega) (fun c55 => ?_) (fun c55 => ?_)
                · refine xr_iinc (lv' := [(3, .int (nI (b + 1))), (5, .int (nI 1)), (4, .int (nI ((t * 8) + b))), (0, .ref h), (1, .int (nI t)), (2, .int (nI mask))]) (k := 5) hx hb dX0_keepComing_79 hl rfl (by decide) rfl (fun ls hl => ?_)
                  refine lv_goto (tgt := 2) hx hb dX0_keepComing_82 (by decide) ?_
                  exact ih (b + 1) nx1 cm1 _ _ _ (by omega) (by omega) hC hge hpre (fun j hj tb l0 => by by_cases q : j = b; (· subst q; first | exact absurd ((tb_iff _ _).mpr tb) c22 | omega | exact hC.full c42 (by omega) | exact hw); (· exact hall j (by omega) tb l0)) hP hD hS (lv_sub hl [3, 4, 5, 0] rfl)
                · omega
              · refine lv_istore (lv' := [(5, .int (nI 0)), (4, .int (nI ((t * 8) + b))), (0, .ref h), (1, .int (nI t)), (2, .int (nI mask)), (3, .int (nI b))]) hx hb dX0_keepComing_51 hl (by decide) rfl (fun ls hl => ?_)
                refine lv_iload hx hb dX0_keepComing_53 (lv_at hl 0 rfl) ?_
                refine xr_if_ne (tgt := 79) hx hb dX0_keepComing_55 (by decide) (by omega) (fun c55 => ?_) (fun c55 => ?_)
                · omega
                · refine lv_aload_n hx hb dX0_keepComing_58 rfl (lv_at hl 2 rfl) ?_
                  refine va_get (D := D) (ci := 0) (v := .ref (r 9)) (C := RX0) (T := TX0) (N := 16) hx hb hts in_X0 hown hK hP 0 rfl rfl 15 (by decide) (hts _ q45) (fun _ h9 => h9) rfl dX0_keepComing_59 ?_
                  refine lv_aload_n hx hb dX0_keepComing_62 rfl (lv_at hl 2 rfl) ?_
                  refine va_get (D := D) (ci := 0) (v := .int (nI nx1)) (C := RX0) (T := TX0) (N := 16) hx hb hts in_X0 hown hK hP 0 rfl rfl 13 (by decide) (hts _ q43) (fun _ h9 => h9) rfl dX0_keepComing_63 ?_
                  refine lv_iload hx hb dX0_keepComing_66 (lv_at hl 1 rfl) ?_
                  refine xr_iast (f := cm1) hx hb hK hP hD hS 10 0 rfl rfl (by omega) (by decide) dX0_keepComing_68 (fun H locs hP hD hS => ?_)
                  have hP : va_P D vwCl (xw cI h r mk ss mv ht hr nx1 fw bw kd fr tt st en ln lv (va_up cm1 nx1 ((t * 8) + b))) H := hP
                  have hD : va_D A (xw cI h r mk ss mv ht hr nx1 fw bw kd fr tt st en ln lv (va_up cm1 nx1 ((t * 8) + b))) := hD
                  refine lv_aload_n hx hb dX0_keepComing_69 rfl (lv_at hl 2 rfl) ?_
                  refine lv_dup hx hb dX0_keepComing_70 rfl ?_
                  refine va_get (D := D) (ci := 0) (v := .int (nI nx1)) (C := RX0) (T := TX0) (N := 16) hx hb hts in_X0 hown hK hP 0 rfl rfl 13 (by decide) (hts _ q43) (fun _ h9 => h9) rfl dX0_keepComing_71 ?_
                  refine lv_iconst (v := nI 1) hx hb dX0_keepComing_74 (by decide) ?_
                  refine xr_iadd hx hb dX0_keepComing_75 ?_
                  refine va_put (D := D) (ci := 0) (v := .int (nI (nx1 + 1))) (ty := .int) (C := RX0) (T := TX0) (N := 16) hx hb hts in_X0 tyX0 tyX0_ok nmX0 hown hK hP hD hS 0 rfl rfl 13 (by decide) (hts _ q43) (fun _ h9 => h9) rfl (by decide +kernel) rfl rfl (Nat.le_of_ble_eq_true rfl) dX0_keepComing_76 (fun H locs hP hD hS => ?_)
                  have hP : va_P D vwCl (xw cI h r mk ss mv ht hr (nx1 + 1) fw bw kd fr tt st en ln lv (va_up cm1 nx1 ((t * 8) + b))) H := hP
                  have hD : va_D A (xw cI h r mk ss mv ht hr (nx1 + 1) fw bw kd fr tt st en ln lv (va_up cm1 nx1 ((t * 8) + b))) := hD
                  refine xr_iinc (lv' := [(3, .int (nI (b + 1))), (5, .int (nI 0)), (4, .int (nI ((t * 8) + b))), (0, .ref h), (1, .int (nI t)), (2, .int (nI mask))]) (k := 5) hx hb dX0_keepComing_79 hl rfl (by decide) rfl (fun ls hl => ?_)
                  refine lv_goto (tgt := 2) hx hb dX0_keepComing_82 (by decide) ?_
                  exact ih (b + 1) (nx1 + 1) (va_up cm1 nx1 (t * 8 + b)) _ _ _ (by omega) (by omega) (hC.add (by omega) (hZ b (by omega) ((tb_iff _ _).mp c22)) (by omega) hw) (by omega) (fun i hi => by rw [up_n (by omega)]; exact hpre i hi) (fun j hj tb l0 => by by_cases q : j = b; (· subst q; exact ⟨nx1, by omega, up_s⟩); (· obtain ⟨i, h1, h2⟩ := hall j (by omega) tb l0; exact ⟨i, by omega, by rw [up_n (by omega)]; exact h2⟩)) hP hD hS (lv_sub hl [3, 4, 5, 0] rfl)
  exact loop 9 0 nx cm _ _ _ (by omega) (by omega) hC0 (Nat.le_refl _) (fun _ _ => rfl) (fun j hj => absurd hj (Nat.not_lt_zero j)) hP hD hS (lv_sub hl [1, 2, 3, 0] rfl)
set_option maxHeartbeats 4000000 in
set_option maxRecDepth 100000 in
theorem X_follow (l : Launch) (D : va_G) (cI cZ : ClassId) (h : Nat) (r : Nat → Nat) (mk ss mv ht hr nx : Nat) (fw bw kd fr tt st en ln lv cm : Nat → Nat) (G : GR) (PP : Nat → Nat → Prop) (i0 a d : Nat) (hX : XOK G mk ss mv ht fw bw kd fr tt st en) (hi0 : i0 < mv) (ha : a < 8) (hd : d ≤ 224) (hL : xLV PP d hr ln lv) (hC : xCM (fun q => PP q (d + 1)) nx cm) (hPP : ∀ w b, Sk G (kd i0) a w b → PP (tt i0 * 8 + b) (d + w)) :
    ct_v l yX0_follow cX0_follow 5 (rmL 2 47) D (tyL cI cZ) [.ref h, .int (nI i0), .int (nI a), .int (nI d)] (xw cI h r mk ss mv ht hr nx fw bw kd fr tt st en ln lv cm) (Nat × Nat × (Nat → Nat) × (Nat → Nat) × (Nat → Nat)) (fun u => xFO G PP (kd i0) a (tt i0) d hr nx ln lv cm u) (fun u => xw cI h r mk ss mv ht u.1 u.2.1 fw bw kd fr tt st en u.2.2.1 u.2.2.2.1 u.2.2.2.2) := by
  refine ct_v_of (by decide) (Nat.le_of_ble_eq_true rfl) ?_
  intro p e s m args below meth c A Q ls F hK hP hD hS hA hend hl
  have F : CallFix p m c cX0_follow 5 s args lw_all RX0 := F
  obtain ⟨hx, hb, hml, hown, hts⟩ := id F
  have hl : lv_has ls 5 [(0, .ref h), (1, .int (nI i0)), (2, .int (nI a)), (3, .int (nI d))] := hl
  obtain ⟨⟨hG, hfw, hbw, hGf, hGb⟩, hmv, hss, hht, hmk, hmm, hst⟩ := hX
  have hm0 := hmm i0 hi0
  have hln : ∀ p, p < 224 → ln p < 2 ^ 31 := fun p hp => by have := hL.ln_le hp; omega
  refine lv_aload_n hx hb dX0_follow_0 rfl (lv_at hl 0 rfl) ?_
  refine va_get (D := D) (ci := 0) (v := .ref (r 2)) (C := RX0) (T := TX0) (N := 16) hx hb hts in_X0 hown hK hP 0 rfl rfl 5 (by decide) (hts _ q35) (fun _ h9 => h9) rfl dX0_follow_1 ?_
  refine lv_iload_n hx hb dX0_follow_4 rfl (lv_at hl 1 rfl) ?_
  refine xr_iald (f := kd) hx hb hK hP 3 0 rfl rfl (by omega) (by decide) dX0_follow_5 ?_
  refine lv_istore (lv' := [(4, .int (nI (kd i0))), (0, .ref h), (1, .int (nI i0)), (2, .int (nI a)), (3, .int (nI d))]) hx hb dX0_follow_6 hl (by decide) rfl (fun ls hl => ?_)
  refine lv_iload hx hb dX0_follow_8 (lv_at hl 0 rfl) ?_
  refine lv_bipush (v := nI 6) hx hb dX0_follow_10 (by decide) ?_
  refine xr_icmp_eq (tgt := 24) hx hb dX0_follow_12 (by decide) (by omega) (by omega) (fun c12 => ?_) (fun c12 => ?_)
  · refine lv_aload_n hx hb dX0_follow_24 rfl (lv_at hl 1 rfl) ?_
    refine lv_aload_n hx hb dX0_follow_25 rfl (lv_at hl 1 rfl) ?_
    refine va_get (D := D) (ci := 0) (v := .ref (r 4)) (C := RX0) (T := TX0) (N := 16) hx hb hts in_X0 hown hK hP 0 rfl rfl 7 (by decide) (hts _ q37) (fun _ h9 => h9) rfl dX0_follow_26 ?_
    refine lv_iload_n hx hb dX0_follow_29 rfl (lv_at hl 2 rfl) ?_
    refine xr_iald (f := tt) hx hb hK hP 5 0 rfl rfl (by omega) (by decide) dX0_follow_30 ?_
    refine lv_iload_n hx hb dX0_follow_31 rfl (lv_at hl 3 rfl) ?_
    refine lv_iload_n hx hb dX0_follow_32 rfl (lv_at hl 4 rfl) ?_
    refine cl_v0 (As := [.int (nI (tt i0)), .int (nI a), .int (nI d)]) (rest := []) (C := RX0) F (X_reachHere l D cI cZ h r mk ss mv ht hr nx fw bw kd fr tt st en ln lv cm (tt i0) a d (by omega) (hln _ (by omega)) (fun z => hL.room (by omega) z)) (lw_V q138 q140 qs4 q20 q141) 3 rfl (by decide +kernel) ⟨Nat.le_of_ble_eq_true rfl, Nat.le_of_ble_eq_true rfl⟩ ⟨rfl, rfl⟩ ⟨Nat.zero_le _, Nat.zero_le _⟩ hK hP hD hS hA 0 0 rfl rfl hl.1 rfl (Nat.le_of_ble_eq_true rfl) dX0_follow_33 (fun u H locs hw hP hD hS => ?_)
    obtain ⟨hr1, ln1, lv1⟩ := u
    have hP : va_P D vwCl (xw cI h r mk ss mv ht hr1 nx fw bw kd fr tt st en ln1 lv1 cm) H := hP
    have hD : va_D A (xw cI h r mk ss mv ht hr1 nx fw bw kd fr tt st en ln1 lv1 cm) := hD
    refine lv_goto (tgt := 101) hx hb dX0_follow_36 (by decide) ?_
    exact hend (hr1, nx, ln1, lv1, cm) _ _ _ _ dX0_follow_101 (fol_silent (u := (hr1, ln1, lv1)) hL hC ha (by omega) (by omega) hPP hw) hP hD hS
  · refine lv_iload hx hb dX0_follow_15 (lv_at hl 0 rfl) ?_
    refine lv_bipush (v := nI 7) hx hb dX0_follow_17 (by decide) ?_
    refine lv_iload_n hx hb dX0_follow_19 rfl (lv_at hl 3 rfl) ?_
    refine xr_iadd hx hb dX0_follow_20 ?_
    refine xr_icmp_ne (tgt := 39) hx hb dX0_follow_21 (by decide) (by omega) (by omega) (fun c21 => ?_) (fun c21 => ?_)
    · refine lv_iload hx hb dX0_follow_39 (lv_at hl 0 rfl) ?_
      refine lv_iconst (v := nI 3) hx hb dX0_follow_41 (by decide) ?_
      refine xr_icmp_ge (tgt := 70) hx hb dX0_follow_42 (by decide) (by omega) (by omega) (fun c42 => ?_) (fun c42 => ?_)
      · refine lv_iload hx hb dX0_follow_70 (lv_at hl 0 rfl) ?_
        refine lv_bipush (v := nI 6) hx hb dX0_follow_72 (by decide) ?_
        refine xr_icmp_ge (tgt := 101) hx hb dX0_follow_74 (by decide) (by omega) (by omega) (fun c74 => ?_) (fun c74 => ?_)
        · exact hend (hr, nx, ln, lv, cm) _ _ _ _ dX0_follow_101 (fol_none hL hC (by omega) (by omega) (by omega)) hP hD hS
        · refine lv_aload_n hx hb dX0_follow_77 rfl (lv_at hl 1 rfl) ?_
          refine lv_aload_n hx hb dX0_follow_78 rfl (lv_at hl 1 rfl) ?_
          refine va_get (D := D) (ci := 0) (v := .ref (r 4)) (C := RX0) (T := TX0) (N := 16) hx hb hts in_X0 hown hK hP 0 rfl rfl 7 (by decide) (hts _ q37) (fun _ h9 => h9) rfl dX0_follow_79 ?_
          refine lv_iload_n hx hb dX0_follow_82 rfl (lv_at hl 2 rfl) ?_
          refine xr_iald (f := tt) hx hb hK hP 5 0 rfl rfl (by omega) (by decide) dX0_follow_83 ?_
          refine lv_aload_n hx hb dX0_follow_84 rfl (lv_at hl 1 rfl) ?_
          refine va_get (D := D) (ci := 0) (v := .ref (r 1)) (C := RX0) (T := TX0) (N := 16) hx hb hts in_X0 hown hK hP 0 rfl rfl 1 (by decide) (hts _ q31) (fun _ h9 => h9) rfl dX0_follow_85 ?_
          refine lv_iload hx hb dX0_follow_88 (lv_at hl 0 rfl) ?_
          refine lv_iconst (v := nI 3) hx hb dX0_follow_90 (by decide) ?_
          refine xr_isub hx hb dX0_follow_91 (by omega) ?_
          refine lv_bipush (v := nI 8) hx hb dX0_follow_92 (by decide) ?_
          refine xr_imul hx hb dX0_follow_94 ?_
          refine lv_iload_n hx hb dX0_follow_95 rfl (lv_at hl 3 rfl) ?_
          refine xr_iadd hx hb dX0_follow_96 ?_
          refine xr_iald (f := bw) hx hb hK hP 2 0 rfl rfl (by omega) (by decide) dX0_follow_97 ?_
          refine cl_v0 (As := [.int (nI (tt i0)), .int (nI (bw ((((kd i0) - 3) * 8) + a)))]) (rest := []) (C := RX0) F (X_keepComing l D cI cZ h r mk ss mv ht hr nx fw bw kd fr tt st en ln lv cm (fun q => PP q (d + 1)) (tt i0) (bw ((kd i0 - 3) * 8 + a)) (by omega) (hbw _ (by omega)) hln hC (fun b hb tb => hPP 1 b (Or.inr (Or.inr (Or.inr ⟨by omega, by omega, (hGb _ _ _ (by omega) ha).mpr ⟨hb, tb⟩, rfl⟩))))) (lw_V q150 q152 qs7 q20 q153) 2 rfl (by decide +kernel) ⟨Nat.le_of_ble_eq_true rfl, Nat.le_of_ble_eq_true rfl⟩ ⟨rfl, rfl⟩ ⟨Nat.zero_le _, Nat.zero_le _⟩ hK hP hD hS hA 0 0 rfl rfl hl.1 rfl (Nat.le_of_ble_eq_true rfl) dX0_follow_98 (fun u H locs hw hP hD hS => ?_)
          obtain ⟨nx1, cm1⟩ := u
          have hP : va_P D vwCl (xw cI h r mk ss mv ht hr nx1 fw bw kd fr tt st en ln lv cm1) H := hP
          have hD : va_D A (xw cI h r mk ss mv ht hr nx1 fw bw kd fr tt st en ln lv cm1) := hD
          exact hend (hr, nx1, ln, lv, cm1) _ _ _ _ dX0_follow_101 (fol_edge (u := (nx1, cm1)) hL hw (fun w b hs => by rcases hs with hs | hs | hs | hs; (· omega); (· omega); (· omega); (· exact ⟨hs.2.2.2, (hGb _ _ _ (by omega) ha).mp hs.2.2.1⟩))) hP hD hS
      · refine lv_aload_n hx hb dX0_follow_45 rfl (lv_at hl 1 rfl) ?_
        refine lv_aload_n hx hb dX0_follow_46 rfl (lv_at hl 1 rfl) ?_
        refine va_get (D := D) (ci := 0) (v := .ref (r 4)) (C := RX0) (T := TX0) (N := 16) hx hb hts in_X0 hown hK hP 0 rfl rfl 7 (by decide) (hts _ q37) (fun _ h9 => h9) rfl dX0_follow_47 ?_
        refine lv_iload_n hx hb dX0_follow_50 rfl (lv_at hl 2 rfl) ?_
        refine xr_iald (f := tt) hx hb hK hP 5 0 rfl rfl (by omega) (by decide) dX0_follow_51 ?_
        refine lv_aload_n hx hb dX0_follow_52 rfl (lv_at hl 1 rfl) ?_
        refine va_get (D := D) (ci := 0) (v := .ref (r 0)) (C := RX0) (T := TX0) (N := 16) hx hb hts in_X0 hown hK hP 0 rfl rfl 0 (by decide) (hts _ q30) (fun _ h9 => h9) rfl dX0_follow_53 ?_
        refine lv_iload hx hb dX0_follow_56 (lv_at hl 0 rfl) ?_
        refine lv_bipush (v := nI 8) hx hb dX0_follow_58 (by decide) ?_
        refine xr_imul hx hb dX0_follow_60 ?_
        refine lv_iload_n hx hb dX0_follow_61 rfl (lv_at hl 3 rfl) ?_
        refine xr_iadd hx hb dX0_follow_62 ?_
        refine xr_iald (f := fw) hx hb hK hP 1 0 rfl rfl (by omega) (by decide) dX0_follow_63 ?_
        refine cl_v0 (As := [.int (nI (tt i0)), .int (nI (fw (((kd i0) * 8) + a)))]) (rest := []) (C := RX0) F (X_keepComing l D cI cZ h r mk ss mv ht hr nx fw bw kd fr tt st en ln lv cm (fun q => PP q (d + 1)) (tt i0) (fw (kd i0 * 8 + a)) (by omega) (hfw _ (by omega)) hln hC (fun b hb tb => hPP 1 b (Or.inr (Or.inr (Or.inl ⟨by omega, (hGf _ _ _ (by omega) ha).mpr ⟨hb, tb⟩, rfl⟩))))) (lw_V q150 q152 qs7 q20 q153) 2 rfl (by decide +kernel) ⟨Nat.le_of_ble_eq_true rfl, Nat.le_of_ble_eq_true rfl⟩ ⟨rfl, rfl⟩ ⟨Nat.zero_le _, Nat.zero_le _⟩ hK hP hD hS hA 0 0 rfl rfl hl.1 rfl (Nat.le_of_ble_eq_true rfl) dX0_follow_64 (fun u H locs hw hP hD hS => ?_)
        obtain ⟨nx1, cm1⟩ := u
        have hP : va_P D vwCl (xw cI h r mk ss mv ht hr nx1 fw bw kd fr tt st en ln lv cm1) H := hP
        have hD : va_D A (xw cI h r mk ss mv ht hr nx1 fw bw kd fr tt st en ln lv cm1) := hD
        refine lv_goto (tgt := 101) hx hb dX0_follow_67 (by decide) ?_
        exact hend (hr, nx1, ln, lv, cm1) _ _ _ _ dX0_follow_101 (fol_edge (u := (nx1, cm1)) hL hw (fun w b hs => by rcases hs with hs | hs | hs | hs; (· omega); (· omega); (· exact ⟨hs.2.2, (hGf _ _ _ (by omega) ha).mp hs.2.1⟩); (· omega))) hP hD hS
    · refine lv_aload_n hx hb dX0_follow_24 rfl (lv_at hl 1 rfl) ?_
      refine lv_aload_n hx hb dX0_follow_25 rfl (lv_at hl 1 rfl) ?_
      refine va_get (D := D) (ci := 0) (v := .ref (r 4)) (C := RX0) (T := TX0) (N := 16) hx hb hts in_X0 hown hK hP 0 rfl rfl 7 (by decide) (hts _ q37) (fun _ h9 => h9) rfl dX0_follow_26 ?_
      refine lv_iload_n hx hb dX0_follow_29 rfl (lv_at hl 2 rfl) ?_
      refine xr_iald (f := tt) hx hb hK hP 5 0 rfl rfl (by omega) (by decide) dX0_follow_30 ?_
      refine lv_iload_n hx hb dX0_follow_31 rfl (lv_at hl 3 rfl) ?_
      refine lv_iload_n hx hb dX0_follow_32 rfl (lv_at hl 4 rfl) ?_
      refine cl_v0 (As := [.int (nI (tt i0)), .int (nI a), .int (nI d)]) (rest := []) (C := RX0) F (X_reachHere l D cI cZ h r mk ss mv ht hr nx fw bw kd fr tt st en ln lv cm (tt i0) a d (by omega) (hln _ (by omega)) (fun z => hL.room (by omega) z)) (lw_V q138 q140 qs4 q20 q141) 3 rfl (by decide +kernel) ⟨Nat.le_of_ble_eq_true rfl, Nat.le_of_ble_eq_true rfl⟩ ⟨rfl, rfl⟩ ⟨Nat.zero_le _, Nat.zero_le _⟩ hK hP hD hS hA 0 0 rfl rfl hl.1 rfl (Nat.le_of_ble_eq_true rfl) dX0_follow_33 (fun u H locs hw hP hD hS => ?_)
      obtain ⟨hr1, ln1, lv1⟩ := u
      have hP : va_P D vwCl (xw cI h r mk ss mv ht hr1 nx fw bw kd fr tt st en ln1 lv1 cm) H := hP
      have hD : va_D A (xw cI h r mk ss mv ht hr1 nx fw bw kd fr tt st en ln1 lv1 cm) := hD
      refine lv_goto (tgt := 101) hx hb dX0_follow_36 (by decide) ?_
      exact hend (hr1, nx, ln1, lv1, cm) _ _ _ _ dX0_follow_101 (fol_silent (u := (hr1, ln1, lv1)) hL hC ha (by omega) (by omega) hPP hw) hP hD hS
set_option maxHeartbeats 4000000 in
set_option maxRecDepth 100000 in
theorem X_workLevel (l : Launch) (D : va_G) (cI cZ : ClassId) (h : Nat) (r : Nat → Nat) (mk ss mv ht hr nx : Nat) (fw bw kd fr tt st en ln lv cm : Nat → Nat) (G : GR) (PP : Nat → Nat → Prop) (d : Nat) (hX : XOK G mk ss mv ht fw bw kd fr tt st en) (hd : d ≤ 224) (hL0 : xLV PP d hr ln lv) (hPP : ∀ p i w b, p < 224 → PP p d → i < mv → fr i = p / 8 → Sk G (kd i) (p % 8) w b → PP (tt i * 8 + b) (d + w)) :
    ct_v l yX0_workLevel cX0_workLevel 6 (rmL 3 71) D (tyL cI cZ) [.ref h, .int (nI d)] (xw cI h r mk ss mv ht hr nx fw bw kd fr tt st en ln lv cm) (Nat × Nat × (Nat → Nat) × (Nat → Nat) × (Nat → Nat)) (fun u => xLV PP d u.1 u.2.2.1 u.2.2.2.1 ∧ xCM (fun q => PP q (d + 1)) u.2.1 u.2.2.2.2 ∧ xGr d hr u.1 0 u.2.1 ln u.2.2.1 lv u.2.2.2.1 cm u.2.2.2.2 ∧ xDone G mv u.1 u.2.1 kd fr tt u.2.2.1 u.2.2.2.1 u.2.2.2.2) (fun u => xw cI h r mk ss mv ht u.1 u.2.1 fw bw kd fr tt st en u.2.2.1 u.2.2.2.1 u.2.2.2.2) := by
  refine ct_v_of (by decide) (Nat.le_of_ble_eq_true rfl) ?_
  intro p e s m args below meth c A Q ls F hK hP hD hS hA hend hl
  have F : CallFix p m c cX0_workLevel 6 s args lw_all RX0 := F
  obtain ⟨hx, hb, hml, hown, hts⟩ := id F
  have hl : lv_has ls 6 [(0, .ref h), (1, .int (nI d))] := hl
  have hX0 := hX
  obtain ⟨⟨hG, hfw, hbw, hGf, hGb⟩, hmv, hss, hht, hmk, hmm, hst⟩ := hX
  refine lv_aload_n hx hb dX0_workLevel_0 rfl (lv_at hl 0 rfl) ?_
  refine lv_iconst (v := nI 0) hx hb dX0_workLevel_1 (by decide) ?_
  refine va_put (D := D) (ci := 0) (v := .int (nI 0)) (ty := .int) (C := RX0) (T := TX0) (N := 16) hx hb hts in_X0 tyX0 tyX0_ok nmX0 hown hK hP hD hS 0 rfl rfl 13 (by decide) (hts _ q43) (fun _ h9 => h9) rfl (by decide +kernel) rfl rfl (Nat.le_of_ble_eq_true rfl) dX0_workLevel_2 (fun H locs hP hD hS => ?_)
  have hP : va_P D vwCl (xw cI h r mk ss mv ht hr 0 fw bw kd fr tt st en ln lv cm) H := hP
  have hD : va_D A (xw cI h r mk ss mv ht hr 0 fw bw kd fr tt st en ln lv cm) := hD
  refine lv_iconst (v := nI 0) hx hb dX0_workLevel_5 (by decide) ?_
  refine lv_istore_n (lv' := [(2, .int (nI 0)), (0, .ref h), (1, .int (nI d))]) hx hb dX0_workLevel_6 rfl hl (by decide) rfl (fun ls hl => ?_)
  have loop : ∀ (n : Nat) (i : Nat) (hr1 : Nat) (nx1 : Nat) (ln1 : Nat → Nat) (lv1 : Nat → Nat) (cm1 : Nat → Nat) (H : Heap) (locs : List Loc) (ls : Array Slot), (i ≤ hr1) → (225 ≤ i + n) → (xLV PP d hr1 ln1 lv1) → (xCM (fun q => PP q (d + 1)) nx1 cm1) → (xGr d hr hr1 0 nx1 ln ln1 lv lv1 cm cm1) → (xDone G mv i nx1 kd fr tt ln1 lv1 cm1) → va_P D vwCl (xw cI h r mk ss mv ht hr1 nx1 fw bw kd fr tt st en ln1 lv1 cm1) H → va_D A (xw cI h r mk ss mv ht hr1 nx1 fw bw kd fr tt st en ln1 lv1 cm1) → va_S A s.heap H locs → lv_has ls 6 [(0, .ref h), (1, .int (nI d)), (2, .int (nI i))] → W p l e (rmL 3 71) s m args below meth c H locs 0 0 Q (F0 m 7 ls []) := by
    intro n
    induction n with
    | zero =>
      intro i hr1 nx1 ln1 lv1 cm1 H locs ls hi hn hL hC hg hdn hP hD hS hl
      have hL1 := hL.1
      omega
    | succ n ih =>
      intro i hr1 nx1 ln1 lv1 cm1 H locs ls hi hn hL hC hg hdn hP hD hS hl
      have hL1 := hL.1
      refine lv_iload_n hx hb dX0_workLevel_7 rfl (lv_at hl 2 rfl) ?_
      refine lv_aload_n hx hb dX0_workLevel_8 rfl (lv_at hl 0 rfl) ?_
      refine va_get (D := D) (ci := 0) (v := .int (nI hr1)) (C := RX0) (T := TX0) (N := 16) hx hb hts in_X0 hown hK hP 0 rfl rfl 12 (by decide) (hts _ q42) (fun _ h9 => h9) rfl dX0_workLevel_9 ?_
      refine xr_icmp_ge (tgt := 80) hx hb dX0_workLevel_12 (by decide) (by omega) (by omega) (fun c12 => ?_) (fun c12 => ?_)
      · exact hend (hr1, nx1, ln1, lv1, cm1) _ _ _ _ dX0_workLevel_80 ⟨hL, hC, hg, fun j hj => hdn j (by omega)⟩ hP hD hS
      · refine lv_aload_n hx hb dX0_workLevel_15 rfl (lv_at hl 0 rfl) ?_
        refine va_get (D := D) (ci := 0) (v := .ref (r 8)) (C := RX0) (T := TX0) (N := 16) hx hb hts in_X0 hown hK hP 0 rfl rfl 14 (by decide) (hts _ q44) (fun _ h9 => h9) rfl dX0_workLevel_16 ?_
        refine lv_iload_n hx hb dX0_workLevel_19 rfl (lv_at hl 2 rfl) ?_
        refine xr_iald (f := lv1) hx hb hK hP 9 0 rfl rfl (by omega) (by decide) dX0_workLevel_20 ?_
        refine lv_bipush (v := nI 8) hx hb dX0_workLevel_21 (by decide) ?_
        refine xr_idiv hx hb dX0_workLevel_23 (by have := (hL.2.2.1 i c12).1; omega) (by decide) (by decide) ?_
        refine lv_istore_n (lv' := [(3, .int (nI ((lv1 i) / 8))), (0, .ref h), (1, .int (nI d)), (2, .int (nI i))]) hx hb dX0_workLevel_24 rfl hl (by decide) rfl (fun ls hl => ?_)
        refine lv_aload_n hx hb dX0_workLevel_25 rfl (lv_at hl 1 rfl) ?_
        refine va_get (D := D) (ci := 0) (v := .ref (r 8)) (C := RX0) (T := TX0) (N := 16) hx hb hts in_X0 hown hK hP 0 rfl rfl 14 (by decide) (hts _ q44) (fun _ h9 => h9) rfl dX0_workLevel_26 ?_
        refine lv_iload_n hx hb dX0_workLevel_29 rfl (lv_at hl 3 rfl) ?_
        refine xr_iald (f := lv1) hx hb hK hP 9 0 rfl rfl (by omega) (by decide) dX0_workLevel_30 ?_
        refine lv_bipush (v := nI 8) hx hb dX0_workLevel_31 (by decide) ?_
        refine xr_irem hx hb dX0_workLevel_33 (by have := (hL.2.2.1 i c12).1; omega) (by decide) (by decide) ?_
        refine lv_istore (lv' := [(4, .int (nI ((lv1 i) % 8))), (3, .int (nI ((lv1 i) / 8))), (0, .ref h), (1, .int (nI d)), (2, .int (nI i))]) hx hb dX0_workLevel_34 hl (by decide) rfl (fun ls hl => ?_)
        refine lv_iconst (v := nI 0) hx hb dX0_workLevel_36 (by decide) ?_
        refine lv_istore (lv' := [(5, .int (nI 0)), (4, .int (nI ((lv1 i) % 8))), (3, .int (nI ((lv1 i) / 8))), (0, .ref h), (1, .int (nI d)), (2, .int (nI i))]) hx hb dX0_workLevel_37 hl (by decide) rfl (fun ls hl => ?_)
        obtain ⟨x, hx0⟩ : ∃ x, x = lv1 i := ⟨_, rfl⟩
        rw [← hx0] at hl
        have loop2 : ∀ (n2 : Nat) (k : Nat) (hr2 : Nat) (nx2 : Nat) (ln2 : Nat → Nat) (lv2 : Nat → Nat) (cm2 : Nat → Nat) (H : Heap) (locs : List Loc) (ls : Array Slot), (k ≤ mv) → (mv + 1 ≤ k + n2) → (i < hr2) → (xLV PP d hr2 ln2 lv2) → (xCM (fun q => PP q (d + 1)) nx2 cm2) → (xGr d hr hr2 0 nx2 ln ln2 lv lv2 cm cm2) → (lv2 i = x) → (xDone G mv i nx2 kd fr tt ln2 lv2 cm2) → (∀ j, j < k → fr j = x / 8 → xDn G (kd j) (x % 8) (tt j) nx2 ln2 cm2) → va_P D vwCl (xw cI h r mk ss mv ht hr2 nx2 fw bw kd fr tt st en ln2 lv2 cm2) H → va_D A (xw cI h r mk ss mv ht hr2 nx2 fw bw kd fr tt st en ln2 lv2 cm2) → va_S A s.heap H locs → lv_has ls 6 [(0, .ref h), (1, .int (nI d)), (2, .int (nI i)), (3, .int (nI (x / 8))), (4, .int (nI (x % 8))), (5, .int (nI k))] → W p l e (rmL 3 71) s m args below meth c H locs 0 0 Q (F0 m 39 ls []) := by
          intro n2
          induction n2 with
          | zero =>
            intro k hr2 nx2 ln2 lv2 cm2 H locs ls hk hn2 hi2 hL2 hC2 hg2 hxe hdn2 hdk hP hD hS hl
            omega
          | succ n2 ih2 =>
            intro k hr2 nx2 ln2 lv2 cm2 H locs ls hk hn2 hi2 hL2 hC2 hg2 hxe hdn2 hdk hP hD hS hl
            have hx4 := hL2.2.2.1 i hi2
            rw [hxe] at hx4
            have hPx := (hL2.2.1 x d hx4.1 hx4.2).1
            refine lv_iload hx hb dX0_workLevel_39 (lv_at hl 5 rfl) ?_
            refine lv_aload_n hx hb dX0_workLevel_41 rfl (lv_at hl 0 rfl) ?_
            refine va_get (D := D) (ci := 0) (v := .int (nI mv)) (C := RX0) (T := TX0) (N := 16) hx hb hts in_X0 hown hK hP 0 rfl rfl 4 (by decide) (hts _ q34) (fun _ h9 => h9) rfl dX0_workLevel_42 ?_
            refine xr_icmp_ge (tgt := 74) hx hb dX0_workLevel_45 (by decide) (by omega) (by omega) (fun c45 => ?_) (fun c45 => ?_)
            · refine xr_iinc (lv' := [(2, .int (nI (i + 1))), (0, .ref h), (1, .int (nI d)), (3, .int (nI (x / 8))), (4, .int (nI (x % 8))), (5, .int (nI k))]) (k := 2) hx hb dX0_workLevel_74 hl rfl (by decide) rfl (fun ls hl => ?_)
              refine lv_goto (tgt := 7) hx hb dX0_workLevel_77 (by decide) ?_
              exact ih (i + 1) hr2 nx2 ln2 lv2 cm2 _ _ _ (by omega) (by omega) hL2 hC2 hg2 (fun j hj m hm e => by by_cases q : j = i; (· subst q; rw [hxe] at e ⊢; exact hdk m (by omega) e); (· exact hdn2 j (by omega) m hm e)) hP hD hS (lv_sub hl [1, 2, 0] rfl)
            · refine lv_aload_n hx hb dX0_workLevel_48 rfl (lv_at hl 0 rfl) ?_
              refine va_get (D := D) (ci := 0) (v := .ref (r 3)) (C := RX0) (T := TX0) (N := 16) hx hb hts in_X0 hown hK hP 0 rfl rfl 6 (by decide) (hts _ q36) (fun _ h9 => h9) rfl dX0_workLevel_49 ?_
              refine lv_iload hx hb dX0_workLevel_52 (lv_at hl 5 rfl) ?_
              refine xr_iald (f := fr) hx hb hK hP 4 0 rfl rfl (by omega) (by decide) dX0_workLevel_54 ?_
              refine lv_iload_n hx hb dX0_workLevel_55 rfl (lv_at hl 3 rfl) ?_
              refine xr_icmp_ne (tgt := 68) hx hb dX0_workLevel_56 (by decide) (by have := (hmm k c45).2.1; omega) (by omega) (fun c56 => ?_) (fun c56 => ?_)
              · refine xr_iinc (lv' := [(5, .int (nI (k + 1))), (0, .ref h), (1, .int (nI d)), (2, .int (nI i)), (3, .int (nI (x / 8))), (4, .int (nI (x % 8)))]) (k := 5) hx hb dX0_workLevel_68 hl rfl (by decide) rfl (fun ls hl => ?_)
                refine lv_goto (tgt := 39) hx hb dX0_workLevel_71 (by decide) ?_
                exact ih2 (k + 1) hr2 nx2 ln2 lv2 cm2 _ _ _ (by omega) (by omega) hi2 hL2 hC2 hg2 hxe hdn2 (fun j hj e => by by_cases q : j = k; (· subst q; exact absurd e c56); (· exact hdk j (by omega) e)) hP hD hS (lv_sub hl [1, 2, 3, 4, 5, 0] rfl)
              · refine lv_aload_n hx hb dX0_workLevel_59 rfl (lv_at hl 0 rfl) ?_
                refine lv_iload hx hb dX0_workLevel_60 (lv_at hl 5 rfl) ?_
                refine lv_iload hx hb dX0_workLevel_62 (lv_at hl 4 rfl) ?_
                refine lv_iload_n hx hb dX0_workLevel_64 rfl (lv_at hl 1 rfl) ?_
                refine cl_v0 (As := [.int (nI k), .int (nI (x % 8)), .int (nI d)]) (rest := []) (C := RX0) F (X_follow l D cI cZ h r mk ss mv ht hr2 nx2 fw bw kd fr tt st en ln2 lv2 cm2 G PP k (x % 8) d hX0 c45 (by omega) hd hL2 hC2 (fun w b hs => hPP x k w b (by omega) hPx c45 c56 hs)) (lw_V q146 q148 qs6 q20 q149) 3 rfl (by decide +kernel) ⟨Nat.le_of_ble_eq_true rfl, Nat.le_of_ble_eq_true rfl⟩ ⟨rfl, rfl⟩ ⟨Nat.zero_le _, Nat.zero_le _⟩ hK hP hD hS hA 0 0 rfl rfl hl.1 rfl (Nat.le_of_ble_eq_true rfl) dX0_workLevel_65 (fun u H locs hw hP hD hS => ?_)
                obtain ⟨hr3, nx3, ln3, lv3, cm3⟩ := u
                have hP : va_P D vwCl (xw cI h r mk ss mv ht hr3 nx3 fw bw kd fr tt st en ln3 lv3 cm3) H := hP
                have hD : va_D A (xw cI h r mk ss mv ht hr3 nx3 fw bw kd fr tt st en ln3 lv3 cm3) := hD
                obtain ⟨hL3, hC3, hg3, hn3⟩ := hw
                dsimp only at hL3 hC3 hg3 hn3
                refine xr_iinc (lv' := [(5, .int (nI (k + 1))), (0, .ref h), (1, .int (nI d)), (2, .int (nI i)), (3, .int (nI (x / 8))), (4, .int (nI (x % 8)))]) (k := 5) hx hb dX0_workLevel_68 hl rfl (by decide) rfl (fun ls hl => ?_)
                refine lv_goto (tgt := 39) hx hb dX0_workLevel_71 (by decide) ?_
                exact ih2 (k + 1) hr3 nx3 ln3 lv3 cm3 _ _ _ (by omega) (by omega) (by have := hg3.2.2.1; omega) hL3 hC3 (hg2.tr hg3) (by rw [hg3.2.2.2.1 i hi2]; exact hxe) (hdn2.gr hg3 (by omega)) (fun j hj e => by by_cases q : j = k; (· subst q; exact hn3); (· exact (hdk j (by omega) e).gr hg3)) hP hD hS (lv_sub hl [1, 2, 3, 4, 5, 0] rfl)
        have hxv := (hL.2.2.1 i c12).1
        exact loop2 (mv + 1) 0 hr1 nx1 ln1 lv1 cm1 _ _ _ (by omega) (by omega) c12 hL hC hg hx0.symm hdn (fun j hj => absurd hj (Nat.not_lt_zero j)) hP hD hS (lv_sub hl [3, 4, 5, 2, 1, 0] rfl)
  exact loop 225 0 hr 0 ln lv cm _ _ _ (by omega) (by omega) hL0 (xCM_0 _ cm) ⟨fun _ _ => rfl, fun _ h => Or.inl h, Nat.le_refl _, fun _ _ => rfl, Nat.le_refl _, fun _ _ => rfl⟩ (fun j hj => absurd hj (Nat.not_lt_zero j)) hP hD hS (lv_sub hl [1, 2, 0] rfl)
end
section
/-! PathAlgebra: search and the questions -/
def xDV (G : GR) (mv ht : Nat) (kd fr tt st en : Nat → Nat) (dv : Nat → Nat → Nat) : Prop :=
  ∀ a b, a < 8 → b < 8 → dv a b = if ht = 0 then 0 else mn (fun d => Pa G (Mv mv kd fr tt) (st (ht - 1)) a d (en (ht - 1)) b)
theorem xDV.le {G : GR} {mk ss mv ht : Nat} {fw bw kd fr tt st en : Nat → Nat} {dv : Nat → Nat → Nat} (h : xDV G mv ht kd fr tt st en dv) (hX : XOK G mk ss mv ht fw bw kd fr tt st en) {a b : Nat} (ha : a < 8) (hb : b < 8) : dv a b ≤ 224 := by
  obtain ⟨⟨hG, hfw, hbw, hGf, hGb⟩, hmv, hss, hht, hmk, hmm, hst⟩ := hX
  rw [h a b ha hb]
  split
  · omega
  · refine mn_bound hG ?_ ?_ ha _ _
    · rintro k u v ⟨i, hi, e1, e2, e3⟩
      have := hmm i hi
      omega
    · have := hst (ht - 1) (by omega)
      omega
def xSE (ht a : Nat) (en : Nat → Nat) (dv : Nat → Nat → Nat) (ln : Nat → Nat) : Prop := ∀ b, b < 8 → (if ht = 0 then 0 else ln (en (ht - 1) * 8 + b)) = dv a b
set_option maxHeartbeats 4000000 in
set_option maxRecDepth 100000 in
theorem X_search (l : Launch) (D : va_G) (cI cZ : ClassId) (h : Nat) (r : Nat → Nat) (mk ss mv ht hr nx : Nat) (fw bw kd fr tt st en ln lv cm : Nat → Nat) (G : GR) (dv : Nat → Nat → Nat) (a : Nat) (hX : XOK G mk ss mv ht fw bw kd fr tt st en) (hdv : xDV G mv ht kd fr tt st en dv) (ha : a < 8) :
    ct_v l yX0_search cX0_search 4 (rmL 4 96) D (tyL cI cZ) [.ref h, .int (nI a)] (xw cI h r mk ss mv ht hr nx fw bw kd fr tt st en ln lv cm) (Nat × Nat × (Nat → Nat) × (Nat → Nat) × (Nat → Nat)) (fun u => xSE ht a en dv u.2.2.1) (fun u => xw cI h r mk ss mv ht u.1 u.2.1 fw bw kd fr tt st en u.2.2.1 u.2.2.2.1 u.2.2.2.2) := by
  refine ct_v_of (by decide) (Nat.le_of_ble_eq_true rfl) ?_
  intro p e s m args below meth c A Q ls F hK hP hD hS hA hend hl
  have F : CallFix p m c cX0_search 4 s args lw_all RX0 := F
  obtain ⟨hx, hb, hml, hown, hts⟩ := id F
  have hl : lv_has ls 4 [(0, .ref h), (1, .int (nI a))] := hl
  have hX0 := hX
  obtain ⟨⟨hG, hfw, hbw, hGf, hGb⟩, hmv, hss, hht, hmk, hmm, hst⟩ := hX
  have hM : ∀ k u v, Mv mv kd fr tt k u v → u < 28 ∧ v < 28 := by
    rintro k u v ⟨i, hi, e1, e2, e3⟩
    have := hmm i hi
    omega
  refine lv_iconst (v := nI 0) hx hb dX0_search_0 (by decide) ?_
  refine lv_istore_n (lv' := [(2, .int (nI 0)), (0, .ref h), (1, .int (nI a))]) hx hb dX0_search_1 rfl hl (by decide) rfl (fun ls hl => ?_)
  have loop : ∀ (n : Nat) (i : Nat) (ln1 : Nat → Nat) (H : Heap) (locs : List Loc) (ls : Array Slot), (i ≤ 224) → (225 ≤ i + n) → (∀ p, p < i → ln1 p = 0) → va_P D vwCl (xw cI h r mk ss mv ht hr nx fw bw kd fr tt st en ln1 lv cm) H → va_D A (xw cI h r mk ss mv ht hr nx fw bw kd fr tt st en ln1 lv cm) → va_S A s.heap H locs → lv_has ls 4 [(0, .ref h), (1, .int (nI a)), (2, .int (nI i))] → W p l e (rmL 4 96) s m args below meth c H locs 0 0 Q (F0 m 2 ls []) := by
    intro n
    induction n with
    | zero =>
      intro i ln1 H locs ls hi hn hz hP hD hS hl
      omega
    | succ n ih =>
      intro i ln1 H locs ls hi hn hz hP hD hS hl
      refine lv_iload_n hx hb dX0_search_2 rfl (lv_at hl 2 rfl) ?_
      refine lv_sipush (v := nI 224) hx hb dX0_search_3 (by decide) ?_
      refine xr_icmp_ge (tgt := 22) hx hb dX0_search_6 (by decide) (by omega) (by omega) (fun c6 => ?_) (fun c6 => ?_)
      · refine lv_aload_n hx hb dX0_search_22 rfl (lv_at hl 0 rfl) ?_
        refine va_get (D := D) (ci := 0) (v := .int (nI ht)) (C := RX0) (T := TX0) (N := 16) hx hb hts in_X0 hown hK hP 0 rfl rfl 8 (by decide) (hts _ q38) (fun _ h9 => h9) rfl dX0_search_23 ?_
        refine xr_if_ne (tgt := 30) hx hb dX0_search_26 (by decide) (by omega) (fun c26 => ?_) (fun c26 => ?_)
        · have hz : ∀ p, p < 224 → ln1 p = 0 := fun p hp => hz p (by omega)
          have hs0 := hst (ht - 1) (by omega)
          obtain ⟨s0, es0⟩ : ∃ s0, s0 = st (ht - 1) := ⟨_, rfl⟩
          refine lv_aload_n hx hb dX0_search_30 rfl (lv_at hl 0 rfl) ?_
          refine lv_iconst (v := nI 0) hx hb dX0_search_31 (by decide) ?_
          refine va_put (D := D) (ci := 0) (v := .int (nI 0)) (ty := .int) (C := RX0) (T := TX0) (N := 16) hx hb hts in_X0 tyX0 tyX0_ok nmX0 hown hK hP hD hS 0 rfl rfl 12 (by decide) (hts _ q42) (fun _ h9 => h9) rfl (by decide +kernel) rfl rfl (Nat.le_of_ble_eq_true rfl) dX0_search_32 (fun H locs hP hD hS => ?_)
          have hP : va_P D vwCl (xw cI h r mk ss mv ht 0 nx fw bw kd fr tt st en ln1 lv cm) H := hP
          have hD : va_D A (xw cI h r mk ss mv ht 0 nx fw bw kd fr tt st en ln1 lv cm) := hD
          refine lv_aload_n hx hb dX0_search_35 rfl (lv_at hl 0 rfl) ?_
          refine lv_aload_n hx hb dX0_search_36 rfl (lv_at hl 0 rfl) ?_
          refine va_get (D := D) (ci := 0) (v := .ref (r 5)) (C := RX0) (T := TX0) (N := 16) hx hb hts in_X0 hown hK hP 0 rfl rfl 9 (by decide) (hts _ q39) (fun _ h9 => h9) rfl dX0_search_37 ?_
          refine lv_aload_n hx hb dX0_search_40 rfl (lv_at hl 0 rfl) ?_
          refine va_get (D := D) (ci := 0) (v := .int (nI ht)) (C := RX0) (T := TX0) (N := 16) hx hb hts in_X0 hown hK hP 0 rfl rfl 8 (by decide) (hts _ q38) (fun _ h9 => h9) rfl dX0_search_41 ?_
          refine lv_iconst (v := nI 1) hx hb dX0_search_44 (by decide) ?_
          refine xr_isub hx hb dX0_search_45 (by omega) ?_
          refine xr_iald (f := st) hx hb hK hP 6 0 rfl rfl (by omega) (by decide) dX0_search_46 ?_
          refine lv_iload_n hx hb dX0_search_47 rfl (lv_at hl 1 rfl) ?_
          refine lv_iconst (v := nI 0) hx hb dX0_search_48 (by decide) ?_
          refine cl_v0 (As := [.int (nI (st (ht - 1))), .int (nI a), .int (nI 0)]) (rest := []) (C := RX0) F (X_reachHere l D cI cZ h r mk ss mv ht 0 nx fw bw kd fr tt st en ln1 lv cm (st (ht - 1)) a 0 (by omega) (by rw [hz _ (by omega)]; decide) (fun _ => by decide)) (lw_V q138 q140 qs4 q20 q141) 3 rfl (by decide +kernel) ⟨Nat.le_of_ble_eq_true rfl, Nat.le_of_ble_eq_true rfl⟩ ⟨rfl, rfl⟩ ⟨Nat.zero_le _, Nat.zero_le _⟩ hK hP hD hS hA 0 0 rfl rfl hl.1 rfl (Nat.le_of_ble_eq_true rfl) dX0_search_49 (fun u H locs hw hP hD hS => ?_)
          obtain ⟨hr1, ln2, lv1⟩ := u
          have hP : va_P D vwCl (xw cI h r mk ss mv ht hr1 nx fw bw kd fr tt st en ln2 lv1 cm) H := hP
          have hD : va_D A (xw cI h r mk ss mv ht hr1 nx fw bw kd fr tt st en ln2 lv1 cm) := hD
          rw [← es0] at hw
          have hz0 : ln1 (s0 * 8 + a) = 0 := hz _ (by omega)
          have hw : hr1 = 0 + 1 ∧ ln2 = va_up ln1 (s0 * 8 + a) (0 + 1) ∧ lv1 = va_up lv 0 (s0 * 8 + a) := by
            rcases hw with ⟨q, -⟩ | ⟨-, q⟩
            · exact absurd hz0 q
            · cases q
              exact ⟨rfl, rfl, rfl⟩
          have hL0 : xLV (fun p d => Pa G (Mv mv kd fr tt) s0 a d (p / 8) (p % 8)) 0 hr1 ln2 lv1 := by
            rw [hw.1, hw.2.1, hw.2.2]
            refine (xLV_0 _ lv hz).add (by omega) hz0 ?_
            show Pa G (Mv mv kd fr tt) s0 a 0 ((s0 * 8 + a) / 8) ((s0 * 8 + a) % 8)
            rw [show (s0 * 8 + a) / 8 = s0 by omega, show (s0 * 8 + a) % 8 = a by omega]
            exact Pa.rf _ _ _ _
          have hsr : ln2 (s0 * 8 + a) = 1 := by rw [hw.2.1, up_s]
          refine lv_iconst (v := nI 0) hx hb dX0_search_52 (by decide) ?_
          refine lv_istore_n (lv' := [(2, .int (nI 0)), (0, .ref h), (1, .int (nI a))]) hx hb dX0_search_53 rfl hl (by decide) rfl (fun ls hl => ?_)
          have loop2 : ∀ (n2 : Nat) (d : Nat) (hr2 : Nat) (nx2 : Nat) (ln3 : Nat → Nat) (lv2 : Nat → Nat) (cm2 : Nat → Nat) (H : Heap) (locs : List Loc) (ls : Array Slot), (d ≤ 225) → (226 ≤ d + n2) → (xLV (fun p d => Pa G (Mv mv kd fr tt) s0 a d (p / 8) (p % 8)) d hr2 ln3 lv2) → (xOLD G (Mv mv kd fr tt) d ln3) → (ln3 (s0 * 8 + a) = 1) → va_P D vwCl (xw cI h r mk ss mv ht hr2 nx2 fw bw kd fr tt st en ln3 lv2 cm2) H → va_D A (xw cI h r mk ss mv ht hr2 nx2 fw bw kd fr tt st en ln3 lv2 cm2) → va_S A s.heap H locs → lv_has ls 4 [(0, .ref h), (1, .int (nI a)), (2, .int (nI d))] → W p l e (rmL 4 96) s m args below meth c H locs 0 0 Q (F0 m 54 ls []) := by
            intro n2
            induction n2 with
            | zero =>
              intro d hr2 nx2 ln3 lv2 cm2 H locs ls hd hn2 hL hO hsr hP hD hS hl
              omega
            | succ n2 ih2 =>
              intro d hr2 nx2 ln3 lv2 cm2 H locs ls hd hn2 hL hO hsr hP hD hS hl
              have hL1 := hL.1
              refine lv_iload_n hx hb dX0_search_54 rfl (lv_at hl 2 rfl) ?_
              refine lv_sipush (v := nI 224) hx hb dX0_search_55 (by decide) ?_
              refine xr_icmp_gt (tgt := 125) hx hb dX0_search_58 (by decide) (by omega) (by omega) (fun c58 => ?_) (fun c58 => ?_)
              · have hr0 : hr2 = 0 := by first | exact c65 | (rcases Nat.eq_zero_or_pos hr2 with q | q; (· exact q); (· have := bfs_deep hG hM (by omega) ha hO hsr hL q; omega))
                subst hr0
                exact hend (0, nx2, ln3, lv2, cm2) _ _ _ _ dX0_search_125 (fun b hb => by
                  have he := (hst (ht - 1) (by omega)).2
                  have := bfs_fin hG hM (by omega) ha hO hsr hL (en (ht - 1) * 8 + b) (by omega)
                  rw [if_neg (by omega), hdv a b ha hb, if_neg (by omega), ← es0]
                  rw [show (en (ht - 1) * 8 + b) / 8 = en (ht - 1) by omega, show (en (ht - 1) * 8 + b) % 8 = b by omega] at this
                  exact this) hP hD hS
              · refine lv_aload_n hx hb dX0_search_61 rfl (lv_at hl 0 rfl) ?_
                refine va_get (D := D) (ci := 0) (v := .int (nI hr2)) (C := RX0) (T := TX0) (N := 16) hx hb hts in_X0 hown hK hP 0 rfl rfl 12 (by decide) (hts _ q42) (fun _ h9 => h9) rfl dX0_search_62 ?_
                refine xr_if_le (tgt := 125) hx hb dX0_search_65 (by decide) (by omega) (fun c65 => ?_) (fun c65 => ?_)
                · have hr0 : hr2 = 0 := by first | exact c65 | (rcases Nat.eq_zero_or_pos hr2 with q | q; (· exact q); (· have := bfs_deep hG hM (by omega) ha hO hsr hL q; omega))
                  subst hr0
                  exact hend (0, nx2, ln3, lv2, cm2) _ _ _ _ dX0_search_125 (fun b hb => by
                    have he := (hst (ht - 1) (by omega)).2
                    have := bfs_fin hG hM (by omega) ha hO hsr hL (en (ht - 1) * 8 + b) (by omega)
                    rw [if_neg (by omega), hdv a b ha hb, if_neg (by omega), ← es0]
                    rw [show (en (ht - 1) * 8 + b) / 8 = en (ht - 1) by omega, show (en (ht - 1) * 8 + b) % 8 = b by omega] at this
                    exact this) hP hD hS
                · refine lv_aload_n hx hb dX0_search_68 rfl (lv_at hl 0 rfl) ?_
                  refine lv_iload_n hx hb dX0_search_69 rfl (lv_at hl 2 rfl) ?_
                  have hdp := bfs_deep hG hM (by omega) ha hO hsr hL c65
                  refine cl_v0 (As := [.int (nI d)]) (rest := []) (C := RX0) F (X_workLevel l D cI cZ h r mk ss mv ht hr2 nx2 fw bw kd fr tt st en ln3 lv2 cm2 G (fun p d => Pa G (Mv mv kd fr tt) s0 a d (p / 8) (p % 8)) d hX0 (by omega) hL (fun p i w b hp hpp hi hf hs => by
                    have hb := Sk_8 hG hs (by omega)
                    show Pa G (Mv mv kd fr tt) s0 a (d + w) ((tt i * 8 + b) / 8) ((tt i * 8 + b) % 8)
                    rw [show (tt i * 8 + b) / 8 = tt i by omega, show (tt i * 8 + b) % 8 = b by omega]
                    exact Pa.step hpp ⟨i, hi, rfl, hf, rfl⟩ hs)) (lw_V q142 q144 qs5 q20 q145) 1 rfl (by decide +kernel) ⟨Nat.le_of_ble_eq_true rfl, Nat.le_of_ble_eq_true rfl⟩ ⟨rfl, rfl⟩ ⟨Nat.zero_le _, Nat.zero_le _⟩ hK hP hD hS hA 0 0 rfl rfl hl.1 rfl (Nat.le_of_ble_eq_true rfl) dX0_search_70 (fun u H locs hw hP hD hS => ?_)
                  obtain ⟨hr4, nx4, ln4, lv4, cm4⟩ := u
                  have hP : va_P D vwCl (xw cI h r mk ss mv ht hr4 nx4 fw bw kd fr tt st en ln4 lv4 cm4) H := hP
                  have hD : va_D A (xw cI h r mk ss mv ht hr4 nx4 fw bw kd fr tt st en ln4 lv4 cm4) := hD
                  obtain ⟨hL4, hC4, hg4, hdn4⟩ := hw
                  dsimp only at hL4 hC4 hg4 hdn4
                  refine lv_aload_n hx hb dX0_search_73 rfl (lv_at hl 0 rfl) ?_
                  refine lv_iconst (v := nI 0) hx hb dX0_search_74 (by decide) ?_
                  refine va_put (D := D) (ci := 0) (v := .int (nI 0)) (ty := .int) (C := RX0) (T := TX0) (N := 16) hx hb hts in_X0 tyX0 tyX0_ok nmX0 hown hK hP hD hS 0 rfl rfl 12 (by decide) (hts _ q42) (fun _ h9 => h9) rfl (by decide +kernel) rfl rfl (Nat.le_of_ble_eq_true rfl) dX0_search_75 (fun H locs hP hD hS => ?_)
                  have hP : va_P D vwCl (xw cI h r mk ss mv ht 0 nx4 fw bw kd fr tt st en ln4 lv4 cm4) H := hP
                  have hD : va_D A (xw cI h r mk ss mv ht 0 nx4 fw bw kd fr tt st en ln4 lv4 cm4) := hD
                  refine lv_iconst (v := nI 0) hx hb dX0_search_78 (by decide) ?_
                  refine lv_istore_n (lv' := [(3, .int (nI 0)), (0, .ref h), (1, .int (nI a)), (2, .int (nI d))]) hx hb dX0_search_79 rfl hl (by decide) rfl (fun ls hl => ?_)
                  have loop3 : ∀ (n3 : Nat) (j : Nat) (hr5 : Nat) (ln5 : Nat → Nat) (lv5 : Nat → Nat) (H : Heap) (locs : List Loc) (ls : Array Slot), (j ≤ nx4) → (nx4 + 1 ≤ j + n3) → (xLV (fun p d => Pa G (Mv mv kd fr tt) s0 a d (p / 8) (p % 8)) (d + 1) hr5 ln5 lv5) → (∀ p, ln4 p ≠ 0 → ln5 p = ln4 p) → (∀ p, ln4 p = 0 → ln5 p = 0 ∨ ln5 p = d + 2) → (∀ i, i < j → ln5 (cm4 i) ≠ 0) → va_P D vwCl (xw cI h r mk ss mv ht hr5 nx4 fw bw kd fr tt st en ln5 lv5 cm4) H → va_D A (xw cI h r mk ss mv ht hr5 nx4 fw bw kd fr tt st en ln5 lv5 cm4) → va_S A s.heap H locs → lv_has ls 4 [(0, .ref h), (1, .int (nI a)), (2, .int (nI d)), (3, .int (nI j))] → W p l e (rmL 4 96) s m args below meth c H locs 0 0 Q (F0 m 80 ls []) := by
                    intro n3
                    induction n3 with
                    | zero =>
                      intro j hr5 ln5 lv5 H locs ls hj hn3 hL5 hg5 hg6 hg7 hP hD hS hl
                      omega
                    | succ n3 ih3 =>
                      intro j hr5 ln5 lv5 H locs ls hj hn3 hL5 hg5 hg6 hg7 hP hD hS hl
                      have hnx4 := hC4.1
                      refine lv_iload_n hx hb dX0_search_80 rfl (lv_at hl 3 rfl) ?_
                      refine lv_aload_n hx hb dX0_search_81 rfl (lv_at hl 0 rfl) ?_
                      refine va_get (D := D) (ci := 0) (v := .int (nI nx4)) (C := RX0) (T := TX0) (N := 16) hx hb hts in_X0 hown hK hP 0 rfl rfl 13 (by decide) (hts _ q43) (fun _ h9 => h9) rfl dX0_search_82 ?_
                      refine xr_icmp_ge (tgt := 119) hx hb dX0_search_85 (by decide) (by omega) (by omega) (fun c85 => ?_) (fun c85 => ?_)
                      · refine xr_iinc (lv' := [(2, .int (nI (d + 1))), (0, .ref h), (1, .int (nI a)), (3, .int (nI j))]) (k := 2) hx hb dX0_search_119 hl rfl (by decide) rfl (fun ls hl => ?_)
                        refine lv_goto (tgt := 54) hx hb dX0_search_122 (by decide) ?_
                        exact ih2 (d + 1) hr5 nx4 ln5 lv5 cm4 _ _ _ (by omega) (by omega) hL5 (bfs_next hG (fun i hi => by have := (hmm i hi).2.2; omega) hO hg4 hL4 hdn4 hL5 hg5 hg6 (fun i hi => hg7 i (by omega))) (by have h1 : ln4 (s0 * 8 + a) = 1 := by { rw [hg4.1 _ (by omega)]; exact hsr }; rw [hg5 _ (by omega)]; exact h1) hP hD hS (lv_sub hl [1, 2, 0] rfl)
                      · have hcj := hC4.2.1 j c85
                        refine lv_aload_n hx hb dX0_search_88 rfl (lv_at hl 0 rfl) ?_
                        refine lv_aload_n hx hb dX0_search_89 rfl (lv_at hl 0 rfl) ?_
                        refine va_get (D := D) (ci := 0) (v := .ref (r 9)) (C := RX0) (T := TX0) (N := 16) hx hb hts in_X0 hown hK hP 0 rfl rfl 15 (by decide) (hts _ q45) (fun _ h9 => h9) rfl dX0_search_90 ?_
                        refine lv_iload_n hx hb dX0_search_93 rfl (lv_at hl 3 rfl) ?_
                        refine xr_iald (f := cm4) hx hb hK hP 10 0 rfl rfl (by omega) (by decide) dX0_search_94 ?_
                        refine lv_bipush (v := nI 8) hx hb dX0_search_95 (by decide) ?_
                        refine xr_idiv hx hb dX0_search_97 (by omega) (by decide) (by decide) ?_
                        refine lv_aload_n hx hb dX0_search_98 rfl (lv_at hl 0 rfl) ?_
                        refine va_get (D := D) (ci := 0) (v := .ref (r 9)) (C := RX0) (T := TX0) (N := 16) hx hb hts in_X0 hown hK hP 0 rfl rfl 15 (by decide) (hts _ q45) (fun _ h9 => h9) rfl dX0_search_99 ?_
                        refine lv_iload_n hx hb dX0_search_102 rfl (lv_at hl 3 rfl) ?_
                        refine xr_iald (f := cm4) hx hb hK hP 10 0 rfl rfl (by omega) (by decide) dX0_search_103 ?_
                        refine lv_bipush (v := nI 8) hx hb dX0_search_104 (by decide) ?_
                        refine xr_irem hx hb dX0_search_106 (by omega) (by decide) (by decide) ?_
                        refine lv_iload_n hx hb dX0_search_107 rfl (lv_at hl 2 rfl) ?_
                        refine lv_iconst (v := nI 1) hx hb dX0_search_108 (by decide) ?_
                        refine xr_iadd hx hb dX0_search_109 ?_
                        refine cl_v0 (As := [.int (nI ((cm4 j) / 8)), .int (nI ((cm4 j) % 8)), .int (nI (d + 1))]) (rest := []) (C := RX0) F (X_reachHere l D cI cZ h r mk ss mv ht hr5 nx4 fw bw kd fr tt st en ln5 lv5 cm4 (cm4 j / 8) (cm4 j % 8) (d + 1) (by omega) (by have := hL5.ln_le (p := cm4 j / 8 * 8 + cm4 j % 8) (by omega); omega) (fun z => hL5.room (by omega) z)) (lw_V q138 q140 qs4 q20 q141) 3 rfl (by decide +kernel) ⟨Nat.le_of_ble_eq_true rfl, Nat.le_of_ble_eq_true rfl⟩ ⟨rfl, rfl⟩ ⟨Nat.zero_le _, Nat.zero_le _⟩ hK hP hD hS hA 0 0 rfl rfl hl.1 rfl (Nat.le_of_ble_eq_true rfl) dX0_search_110 (fun u H locs hw hP hD hS => ?_)
                        obtain ⟨hr6, ln6, lv6⟩ := u
                        have hP : va_P D vwCl (xw cI h r mk ss mv ht hr6 nx4 fw bw kd fr tt st en ln6 lv6 cm4) H := hP
                        have hD : va_D A (xw cI h r mk ss mv ht hr6 nx4 fw bw kd fr tt st en ln6 lv6 cm4) := hD
                        rw [show cm4 j / 8 * 8 + cm4 j % 8 = cm4 j by omega] at hw
                        rcases hw with ⟨hw0, hw⟩ | ⟨hw0, hw⟩
                        · cases hw
                          refine xr_iinc (lv' := [(3, .int (nI (j + 1))), (0, .ref h), (1, .int (nI a)), (2, .int (nI d))]) (k := 3) hx hb dX0_search_113 hl rfl (by decide) rfl (fun ls hl => ?_)
                          refine lv_goto (tgt := 80) hx hb dX0_search_116 (by decide) ?_
                          exact ih3 (j + 1) hr5 ln5 lv5 _ _ _ (by omega) (by omega) hL5 hg5 hg6 (fun i hi => by by_cases q : i = j; (· subst q; exact hw0); (· exact hg7 i (by omega))) hP hD hS (lv_sub hl [1, 2, 3, 0] rfl)
                        · cases hw
                          refine xr_iinc (lv' := [(3, .int (nI (j + 1))), (0, .ref h), (1, .int (nI a)), (2, .int (nI d))]) (k := 3) hx hb dX0_search_113 hl rfl (by decide) rfl (fun ls hl => ?_)
                          refine lv_goto (tgt := 80) hx hb dX0_search_116 (by decide) ?_
                          exact ih3 (j + 1) (hr5 + 1) (va_up ln5 (cm4 j) (d + 1 + 1)) (va_up lv5 hr5 (cm4 j)) _ _ _ (by omega) (by omega) (hL5.add hcj.1 hw0 hcj.2) (fun p hp => by have h1 := hg5 p hp; rw [up_n (fun e => by rw [e] at h1 hp; omega)]; exact h1) (fun p hp => by by_cases q : p = cm4 j; (· rw [q, up_s]; exact Or.inr rfl); (· rw [up_n q]; exact hg6 p hp)) (fun i hi => by by_cases q : cm4 i = cm4 j; (· rw [q, up_s]; omega); (· rw [up_n q]; exact hg7 i (by by_cases z : i = j; (· subst z; exact absurd rfl q); (· omega)))) hP hD hS (lv_sub hl [1, 2, 3, 0] rfl)
                  exact loop3 (nx4 + 1) 0 0 ln4 lv4 _ _ _ (by omega) (by omega) hL4.next (fun _ _ => rfl) (fun _ q => Or.inl q) (fun i hi => absurd hi (Nat.not_lt_zero i)) hP hD hS (lv_sub hl [1, 2, 3, 0] rfl)
          exact loop2 226 0 hr1 nx ln2 lv1 cm _ _ _ (by omega) (by omega) hL0 (xOLD_0 _ _ _) hsr hP hD hS (lv_sub hl [1, 2, 0] rfl)
        · exact hend (hr, nx, ln1, lv, cm) _ _ _ _ dX0_search_29 (fun b hb => by rw [if_pos c26, hdv a b ha hb, if_pos c26]) hP hD hS
      · refine lv_aload_n hx hb dX0_search_9 rfl (lv_at hl 0 rfl) ?_
        refine va_get (D := D) (ci := 0) (v := .ref (r 7)) (C := RX0) (T := TX0) (N := 16) hx hb hts in_X0 hown hK hP 0 rfl rfl 11 (by decide) (hts _ q41) (fun _ h9 => h9) rfl dX0_search_10 ?_
        refine lv_iload_n hx hb dX0_search_13 rfl (lv_at hl 2 rfl) ?_
        refine lv_iconst (v := (-1)) hx hb dX0_search_14 (by decide) ?_
        refine xr_mast (f := ln1) (x := 0) hx hb hK hP hD hS 8 0 rfl rfl (by omega) (by decide) (by decide) dX0_search_15 (fun H locs hP hD hS => ?_)
        have hP : va_P D vwCl (xw cI h r mk ss mv ht hr nx fw bw kd fr tt st en (va_up ln1 i 0) lv cm) H := hP
        have hD : va_D A (xw cI h r mk ss mv ht hr nx fw bw kd fr tt st en (va_up ln1 i 0) lv cm) := hD
        refine xr_iinc (lv' := [(2, .int (nI (i + 1))), (0, .ref h), (1, .int (nI a))]) (k := 2) hx hb dX0_search_16 hl rfl (by decide) rfl (fun ls hl => ?_)
        refine lv_goto (tgt := 2) hx hb dX0_search_19 (by decide) ?_
        exact ih (i + 1) (va_up ln1 i 0) _ _ _ (by omega) (by omega) (fun p hp => by by_cases q : p = i; (· rw [q, up_s]); (· rw [up_n q]; exact hz p (by omega))) hP hD hS (lv_sub hl [1, 2, 0] rfl)
  exact loop 225 0 ln _ _ _ (by omega) (by omega) (fun p hp => absurd hp (Nat.not_lt_zero p)) hP hD hS (lv_sub hl [1, 2, 0] rfl)
end
section
/-! the answers, out of the least lengths dv (0: none, else one more) -/
noncomputable def anLeads (dv : Nat → Nat → Nat) (a b : Int32) : Int32 := @ite _ (inR a 8 ∧ inR b 8) (Classical.propDecidable _) (nI (if dv a.toNatClampNeg b.toNatClampNeg = 0 then 0 else 1)) (nI 0)
noncomputable def anShort (dv : Nat → Nat → Nat) (a b : Int32) : Int32 := @ite _ (inR a 8 ∧ inR b 8) (Classical.propDecidable _) (if dv a.toNatClampNeg b.toNatClampNeg = 0 then -5 else nI (dv a.toNatClampNeg b.toNatClampNeg - 1)) (-2)
def mk8 (f : Nat → Nat) : Nat → Nat
  | 0 => 0
  | n + 1 => if f n = 0 then mk8 f n else mk8 f n ||| 2 ^ n
noncomputable def anReach (dv : Nat → Nat → Nat) (a : Int32) : Int32 := @ite _ (inR a 8) (Classical.propDecidable _) (nI (mk8 (dv a.toNatClampNeg) 8)) (-2)
def ctp (dv : Nat → Nat → Nat) : Nat → Nat
  | 0 => 0
  | n + 1 => ctp dv n + (if dv (n / 8) (n % 8) = 0 then 0 else 1)
def wd (dv : Nat → Nat → Nat) : Nat → Nat
  | 0 => 0
  | n + 1 => max (wd dv n) (dv (n / 8) (n % 8))
def anWide (dv : Nat → Nat → Nat) : Int32 := if wd dv 64 = 0 then -5 else nI (wd dv 64 - 1)
theorem anLeads_in (dv : Nat → Nat → Nat) {i j : Nat} (hi : i < 8) (hj : j < 8) : anLeads dv (nI i) (nI j) = nI (if dv i j = 0 then 0 else 1) := by
  unfold anLeads
  rw [if_pos ⟨⟨i, hi, rfl⟩, ⟨j, hj, rfl⟩⟩, nI_clamp (by omega), nI_clamp (by omega)]
theorem anLeads_out (dv : Nat → Nat → Nat) {a b : Int32} (h : ¬ (inR a 8 ∧ inR b 8)) : anLeads dv a b = nI 0 := by
  unfold anLeads
  rw [if_neg h]
theorem anShort_in (dv : Nat → Nat → Nat) {i j : Nat} (hi : i < 8) (hj : j < 8) : anShort dv (nI i) (nI j) = if dv i j = 0 then -5 else nI (dv i j - 1) := by
  unfold anShort
  rw [if_pos ⟨⟨i, hi, rfl⟩, ⟨j, hj, rfl⟩⟩, nI_clamp (by omega), nI_clamp (by omega)]
theorem anShort_out (dv : Nat → Nat → Nat) {a b : Int32} (h : ¬ (inR a 8 ∧ inR b 8)) : anShort dv a b = -2 := by
  unfold anShort
  rw [if_neg h]
theorem anReach_in (dv : Nat → Nat → Nat) {i : Nat} (hi : i < 8) : anReach dv (nI i) = nI (mk8 (dv i) 8) := by
  unfold anReach
  rw [if_pos ⟨i, hi, rfl⟩, nI_clamp (by omega)]
theorem anReach_out (dv : Nat → Nat → Nat) {a : Int32} (h : ¬ inR a 8) : anReach dv a = -2 := by
  unfold anReach
  rw [if_neg h]
theorem mk8_lt (f : Nat → Nat) : ∀ n, mk8 f n < 2 ^ n
  | 0 => Nat.one_pos
  | n + 1 => by
    have h := mk8_lt f n
    have h2 : 2 ^ n < 2 ^ (n + 1) := Nat.pow_lt_pow_right (by decide) (by omega)
    unfold mk8
    split
    · omega
    · exact Nat.or_lt_two_pow (by omega) h2
theorem mk8_bit (f : Nat → Nat) (i : Nat) : ∀ n, (mk8 f n).testBit i = (decide (i < n) && decide (f i ≠ 0))
  | 0 => by simp [mk8]
  | n + 1 => by
    have h := mk8_bit f i n
    unfold mk8
    by_cases q : f n = 0
    · rw [if_pos q, h]
      by_cases e : i = n
      · subst e
        simp [q]
      · have : (i < n + 1) ↔ (i < n) := by omega
        simp [this]
    · rw [if_neg q, fb_bit_set, h]
      by_cases e : i = n
      · subst e
        simp [q]
      · have : (i < n + 1) ↔ (i < n) := by omega
        simp [this, e]
theorem mk8_and1 (f : Nat → Nat) {b : Nat} (hb : b < 8) : mk8 f 8 / 2 ^ b &&& 1 = if f b = 0 then 0 else 1 := by
  have h := mk8_bit f b 8
  rw [Nat.and_one_is_mod]
  rw [Nat.testBit_eq_decide_div_mod_eq] at h
  have h2 := Nat.mod_two_eq_zero_or_one (mk8 f 8 / 2 ^ b)
  by_cases q : f b = 0
  · rw [if_pos q]
    simp [q] at h
    omega
  · rw [if_neg q]
    simp [q, hb] at h
    omega
theorem mk8_andp (f : Nat → Nat) {b : Nat} (hb : b < 8) : mk8 f 8 &&& 2 ^ b = if f b = 0 then 0 else 2 ^ b := by
  have h := mk8_bit f b 8
  refine Nat.eq_of_testBit_eq fun i => ?_
  rw [Nat.testBit_and, Nat.testBit_two_pow]
  by_cases e : b = i
  · subst e
    rw [h]
    by_cases q : f b = 0
    · simp [q]
    · simp [q, hb]
  · by_cases q : f b = 0
    · simp [q, e]
    · rw [if_neg q, Nat.testBit_two_pow]
      simp [e]
theorem zz_mI {n : Nat} (h : n < 2 ^ 31) : (nI n - 1).toInt = (n : Int) - 1 := by
  rcases Nat.eq_zero_or_pos n with e | e
  · subst e
    decide
  · obtain ⟨k, rfl⟩ : ∃ k, n = k + 1 := ⟨n - 1, by omega⟩
    rw [nI_pred, nI_toInt (by omega)]
    omega
def wv (dv : Nat → Nat → Nat) (k : Nat) : Int32 := if k = 0 then -5 else nI (wd dv k) - 1
theorem wd_le (dv : Nat → Nat → Nat) {c : Nat} (h : ∀ a b, a < 8 → b < 8 → dv a b ≤ c) : ∀ k, k ≤ 64 → wd dv k ≤ c
  | 0, _ => Nat.zero_le _
  | k + 1, hk => by
    have h1 := wd_le dv h k (by omega)
    have h2 := h (k / 8) (k % 8) (by omega) (by omega)
    unfold wd
    omega
theorem wv_step (dv : Nat → Nat → Nat) (h : ∀ a b, a < 8 → b < 8 → dv a b ≤ 224) {k : Nat} (hk : k < 64) : (nI (dv (k / 8) (k % 8)) - 1 ≤ wv dv k → wv dv (k + 1) = wv dv k) ∧ (¬ nI (dv (k / 8) (k % 8)) - 1 ≤ wv dv k → wv dv (k + 1) = nI (dv (k / 8) (k % 8)) - 1) := by
  have h1 := wd_le dv h k (by omega)
  have h2 := h (k / 8) (k % 8) (by omega) (by omega)
  have e1 := zz_mI (n := dv (k / 8) (k % 8)) (by omega)
  have e2 := zz_mI (n := wd dv k) (by omega)
  have e3 : wv dv (k + 1) = nI (max (wd dv k) (dv (k / 8) (k % 8))) - 1 := by
    unfold wv
    rw [if_neg (by omega)]
    rfl
  rw [e3, fa_le, e1]
  by_cases q : k = 0
  · subst q
    have e4 : (wv dv 0).toInt = -5 := by
      unfold wv
      rw [if_pos rfl]
      decide
    rw [e4]
    constructor
    · intro c
      omega
    · intro _
      have : wd dv 0 = 0 := rfl
      rw [this, Nat.max_eq_right (by omega)]
  · have e4 : wv dv k = nI (wd dv k) - 1 := by
      unfold wv
      rw [if_neg q]
    rw [e4, e2]
    constructor
    · intro c
      rw [Nat.max_eq_left (by omega)]
    · intro c
      rw [Nat.max_eq_right (by omega)]
theorem anWide_of (dv : Nat → Nat → Nat) (h : ∀ a b, a < 8 → b < 8 → dv a b ≤ 224) : (0 ≤ wv dv 64 → anWide dv = wv dv 64) ∧ (¬ 0 ≤ wv dv 64 → anWide dv = -5) := by
  have h1 := wd_le dv h 64 (by omega)
  have e2 := zz_mI (n := wd dv 64) (by omega)
  have e4 : wv dv 64 = nI (wd dv 64) - 1 := by
    unfold wv
    rw [if_neg (by omega)]
  rw [e4, fa_le, e2, show (0 : Int32).toInt = 0 from rfl]
  unfold anWide
  constructor
  · intro c
    rw [if_neg (by omega)]
    obtain ⟨k, hk⟩ : ∃ k, wd dv 64 = k + 1 := ⟨wd dv 64 - 1, by omega⟩
    rw [hk, nI_pred]
    rfl
  · intro c
    rw [if_pos (by omega)]
end
section
/-! PathAlgebra: the questions -/
set_option maxHeartbeats 4000000 in
set_option maxRecDepth 100000 in
theorem X_leads (l : Launch) (D : va_G) (cI cZ : ClassId) (h : Nat) (r : Nat → Nat) (mk ss mv ht hr nx : Nat) (fw bw kd fr tt st en ln lv cm : Nat → Nat) (G : GR) (dv : Nat → Nat → Nat) (hX : XOK G mk ss mv ht fw bw kd fr tt st en) (hdv : xDV G mv ht kd fr tt st en dv) (a b : Int32) :
    ct_i l yX0_leads cX0_leads 4 .boolean (rmL 5 119) D (tyL cI cZ) [.ref h, .int a, .int b] (xw cI h r mk ss mv ht hr nx fw bw kd fr tt st en ln lv cm) (Nat × Nat × (Nat → Nat) × (Nat → Nat) × (Nat → Nat)) (fun x _ => x = anLeads dv a b) (fun u => xw cI h r mk ss mv ht u.1 u.2.1 fw bw kd fr tt st en u.2.2.1 u.2.2.2.1 u.2.2.2.2) := by
  refine ct_i_of (by decide) (Nat.le_of_ble_eq_true rfl) ?_
  intro p e s m args below meth c A Q ls F hK hP hD hS hA hend hl
  have F : CallFix p m c cX0_leads 4 s args lw_all RX0 := F
  obtain ⟨hx, hb, hml, hown, hts⟩ := id F
  have hl : lv_has ls 4 [(0, .ref h), (1, .int a), (2, .int b)] := hl
  have hX0 := hX
  have hdl : ∀ a b, a < 8 → b < 8 → dv a b ≤ 224 := fun a b ha hb => hdv.le hX ha hb
  obtain ⟨⟨hG, hfw, hbw, hGf, hGb⟩, hmv, hss, hht, hmk, hmm, hst⟩ := hX
  have hen : ∀ b, b < 8 → 0 < ht → en (ht - 1) * 8 + b < 224 := fun b hb h0 => by
    have := hst (ht - 1) (by omega)
    omega
  refine lv_iload_n hx hb dX0_leads_0 rfl (lv_at hl 1 rfl) ?_
  refine cs_i0 (As := [.int a]) (rest := []) F (X_badNode l D cI cZ (xw cI h r mk ss mv ht hr nx fw bw kd fr tt st en ln lv cm) a) (lw_S q131 q132 q20 q133) 1 rfl (by decide +kernel) ⟨Nat.le_of_ble_eq_true rfl, Nat.le_of_ble_eq_true rfl⟩ ⟨rfl, rfl⟩ ⟨Nat.zero_le _, Nat.zero_le _⟩ hK hP hD hS hA hl.1 rfl (Nat.le_of_ble_eq_true rfl) dX0_leads_1 (fun r1 u H locs hw hP hD hS => ?_)
  have hP : va_P D vwCl (xw cI h r mk ss mv ht hr nx fw bw kd fr tt st en ln lv cm) H := hP
  have hD : va_D A (xw cI h r mk ss mv ht hr nx fw bw kd fr tt st en ln lv cm) := hD
  rcases hw with ⟨rfl, hw⟩ | ⟨rfl, hw⟩
  · obtain ⟨i, hi, rfl⟩ := hw
    refine xr_if_ne (tgt := 14) hx hb dX0_leads_4 (by decide) (by omega) (fun c4 => ?_) (fun c4 => ?_)
    · omega
    · refine lv_iload_n hx hb dX0_leads_7 rfl (lv_at hl 2 rfl) ?_
      refine cs_i0 (As := [.int b]) (rest := []) F (X_badNode l D cI cZ (xw cI h r mk ss mv ht hr nx fw bw kd fr tt st en ln lv cm) b) (lw_S q131 q132 q20 q133) 1 rfl (by decide +kernel) ⟨Nat.le_of_ble_eq_true rfl, Nat.le_of_ble_eq_true rfl⟩ ⟨rfl, rfl⟩ ⟨Nat.zero_le _, Nat.zero_le _⟩ hK hP hD hS hA hl.1 rfl (Nat.le_of_ble_eq_true rfl) dX0_leads_8 (fun r1 u H locs hw hP hD hS => ?_)
      have hP : va_P D vwCl (xw cI h r mk ss mv ht hr nx fw bw kd fr tt st en ln lv cm) H := hP
      have hD : va_D A (xw cI h r mk ss mv ht hr nx fw bw kd fr tt st en ln lv cm) := hD
      rcases hw with ⟨rfl, hw⟩ | ⟨rfl, hw⟩
      · obtain ⟨j, hj, rfl⟩ := hw
        refine xr_if_eq (tgt := 16) hx hb dX0_leads_11 (by decide) (by omega) (fun c11 => ?_) (fun c11 => ?_)
        · refine lv_aload_n hx hb dX0_leads_16 rfl (lv_at hl 0 rfl) ?_
          refine lv_iload_n hx hb dX0_leads_17 rfl (lv_at hl 1 rfl) ?_
          refine cl_v0 (As := [.int (nI i)]) (rest := []) (C := RX0) F (X_search l D cI cZ h r mk ss mv ht hr nx fw bw kd fr tt st en ln lv cm G dv i hX0 hdv hi) (lw_V q134 q136 qs3 q20 q137) 1 rfl (by decide +kernel) ⟨Nat.le_of_ble_eq_true rfl, Nat.le_of_ble_eq_true rfl⟩ ⟨rfl, rfl⟩ ⟨Nat.zero_le _, Nat.zero_le _⟩ hK hP hD hS hA 0 0 rfl rfl hl.1 rfl (Nat.le_of_ble_eq_true rfl) dX0_leads_18 (fun u H locs hsw hP hD hS => ?_)
          obtain ⟨hr1, nx1, ln1, lv1, cm1⟩ := u
          have hP : va_P D vwCl (xw cI h r mk ss mv ht hr1 nx1 fw bw kd fr tt st en ln1 lv1 cm1) H := hP
          have hD : va_D A (xw cI h r mk ss mv ht hr1 nx1 fw bw kd fr tt st en ln1 lv1 cm1) := hD
          dsimp only at hsw
          refine lv_aload_n hx hb dX0_leads_21 rfl (lv_at hl 0 rfl) ?_
          refine lv_iload_n hx hb dX0_leads_22 rfl (lv_at hl 2 rfl) ?_
          refine cl_i0 (As := [.int (nI j)]) (rest := []) (C := RX0) F (X_lengthTo l D cI cZ h r mk ss mv ht hr1 nx1 fw bw kd fr tt st en ln1 lv1 cm1 j hht (hen j hj)) (lw_V q158 q160 qs9 q20 q161) 1 rfl (by decide +kernel) ⟨Nat.le_of_ble_eq_true rfl, Nat.le_of_ble_eq_true rfl⟩ ⟨rfl, rfl⟩ ⟨Nat.zero_le _, Nat.zero_le _⟩ hK hP hD hS hA 0 0 rfl rfl hl.1 rfl (Nat.le_of_ble_eq_true rfl) dX0_leads_23 (fun r2 u H locs hw2 hP hD hS => ?_)
          have hP : va_P D vwCl (xw cI h r mk ss mv ht hr1 nx1 fw bw kd fr tt st en ln1 lv1 cm1) H := hP
          have hD : va_D A (xw cI h r mk ss mv ht hr1 nx1 fw bw kd fr tt st en ln1 lv1 cm1) := hD
          rw [hsw j hj] at hw2
          subst hw2
          refine lv_istore_n (lv' := [(3, .int (nI (dv i j) - 1)), (0, .ref h), (1, .int (nI i)), (2, .int (nI j))]) hx hb dX0_leads_26 rfl hl (by decide) rfl (fun ls hl => ?_)
          refine lv_iload_n hx hb dX0_leads_27 rfl (lv_at hl 0 rfl) ?_
          refine xr_mlt (tgt := 35) hx hb dX0_leads_28 (by decide) (by have := hdl i j hi hj; omega) (fun c28 => ?_) (fun c28 => ?_)
          · refine lv_iconst (v := nI 0) hx hb dX0_leads_35 (by decide) ?_
            exact hend (nI 0) (hr1, nx1, ln1, lv1, cm1) _ _ _ _ dX0_leads_36 rfl (by rw [anLeads_in dv hi hj, if_pos c28]) hP hD hS
          · refine lv_iconst (v := nI 1) hx hb dX0_leads_31 (by decide) ?_
            refine lv_goto (tgt := 36) hx hb dX0_leads_32 (by decide) ?_
            exact hend (nI 1) (hr1, nx1, ln1, lv1, cm1) _ _ _ _ dX0_leads_36 rfl (by rw [anLeads_in dv hi hj, if_neg (by omega)]) hP hD hS
        · omega
      · refine xr_if_eq (tgt := 16) hx hb dX0_leads_11 (by decide) (by omega) (fun c11 => ?_) (fun c11 => ?_)
        · omega
        · refine lv_iconst (v := nI 0) hx hb dX0_leads_14 (by decide) ?_
          exact hend (nI 0) (hr, nx, ln, lv, cm) _ _ _ _ dX0_leads_15 rfl (anLeads_out dv (by rintro ⟨q1, q2⟩; first | exact hw q1 | exact hw q2)).symm hP hD hS
  · refine xr_if_ne (tgt := 14) hx hb dX0_leads_4 (by decide) (by omega) (fun c4 => ?_) (fun c4 => ?_)
    · refine lv_iconst (v := nI 0) hx hb dX0_leads_14 (by decide) ?_
      exact hend (nI 0) (hr, nx, ln, lv, cm) _ _ _ _ dX0_leads_15 rfl (anLeads_out dv (by rintro ⟨q1, q2⟩; first | exact hw q1 | exact hw q2)).symm hP hD hS
    · omega
set_option maxHeartbeats 4000000 in
set_option maxRecDepth 100000 in
theorem X_shortest (l : Launch) (D : va_G) (cI cZ : ClassId) (h : Nat) (r : Nat → Nat) (mk ss mv ht hr nx : Nat) (fw bw kd fr tt st en ln lv cm : Nat → Nat) (G : GR) (dv : Nat → Nat → Nat) (hX : XOK G mk ss mv ht fw bw kd fr tt st en) (hdv : xDV G mv ht kd fr tt st en dv) (a b : Int32) :
    ct_i l yX0_shortest cX0_shortest 4 .int (rmL 5 119) D (tyL cI cZ) [.ref h, .int a, .int b] (xw cI h r mk ss mv ht hr nx fw bw kd fr tt st en ln lv cm) (Nat × Nat × (Nat → Nat) × (Nat → Nat) × (Nat → Nat)) (fun x _ => x = anShort dv a b) (fun u => xw cI h r mk ss mv ht u.1 u.2.1 fw bw kd fr tt st en u.2.2.1 u.2.2.2.1 u.2.2.2.2) := by
  refine ct_i_of (by decide) (Nat.le_of_ble_eq_true rfl) ?_
  intro p e s m args below meth c A Q ls F hK hP hD hS hA hend hl
  have F : CallFix p m c cX0_shortest 4 s args lw_all RX0 := F
  obtain ⟨hx, hb, hml, hown, hts⟩ := id F
  have hl : lv_has ls 4 [(0, .ref h), (1, .int a), (2, .int b)] := hl
  have hX0 := hX
  have hdl : ∀ a b, a < 8 → b < 8 → dv a b ≤ 224 := fun a b ha hb => hdv.le hX ha hb
  obtain ⟨⟨hG, hfw, hbw, hGf, hGb⟩, hmv, hss, hht, hmk, hmm, hst⟩ := hX
  have hen : ∀ b, b < 8 → 0 < ht → en (ht - 1) * 8 + b < 224 := fun b hb h0 => by
    have := hst (ht - 1) (by omega)
    omega
  refine lv_iload_n hx hb dX0_shortest_0 rfl (lv_at hl 1 rfl) ?_
  refine cs_i0 (As := [.int a]) (rest := []) F (X_badNode l D cI cZ (xw cI h r mk ss mv ht hr nx fw bw kd fr tt st en ln lv cm) a) (lw_S q131 q132 q20 q133) 1 rfl (by decide +kernel) ⟨Nat.le_of_ble_eq_true rfl, Nat.le_of_ble_eq_true rfl⟩ ⟨rfl, rfl⟩ ⟨Nat.zero_le _, Nat.zero_le _⟩ hK hP hD hS hA hl.1 rfl (Nat.le_of_ble_eq_true rfl) dX0_shortest_1 (fun r1 u H locs hw hP hD hS => ?_)
  have hP : va_P D vwCl (xw cI h r mk ss mv ht hr nx fw bw kd fr tt st en ln lv cm) H := hP
  have hD : va_D A (xw cI h r mk ss mv ht hr nx fw bw kd fr tt st en ln lv cm) := hD
  rcases hw with ⟨rfl, hw⟩ | ⟨rfl, hw⟩
  · obtain ⟨i, hi, rfl⟩ := hw
    refine xr_if_ne (tgt := 14) hx hb dX0_shortest_4 (by decide) (by omega) (fun c4 => ?_) (fun c4 => ?_)
    · omega
    · refine lv_iload_n hx hb dX0_shortest_7 rfl (lv_at hl 2 rfl) ?_
      refine cs_i0 (As := [.int b]) (rest := []) F (X_badNode l D cI cZ (xw cI h r mk ss mv ht hr nx fw bw kd fr tt st en ln lv cm) b) (lw_S q131 q132 q20 q133) 1 rfl (by decide +kernel) ⟨Nat.le_of_ble_eq_true rfl, Nat.le_of_ble_eq_true rfl⟩ ⟨rfl, rfl⟩ ⟨Nat.zero_le _, Nat.zero_le _⟩ hK hP hD hS hA hl.1 rfl (Nat.le_of_ble_eq_true rfl) dX0_shortest_8 (fun r1 u H locs hw hP hD hS => ?_)
      have hP : va_P D vwCl (xw cI h r mk ss mv ht hr nx fw bw kd fr tt st en ln lv cm) H := hP
      have hD : va_D A (xw cI h r mk ss mv ht hr nx fw bw kd fr tt st en ln lv cm) := hD
      rcases hw with ⟨rfl, hw⟩ | ⟨rfl, hw⟩
      · obtain ⟨j, hj, rfl⟩ := hw
        refine xr_if_eq (tgt := 17) hx hb dX0_shortest_11 (by decide) (by omega) (fun c11 => ?_) (fun c11 => ?_)
        · refine lv_aload_n hx hb dX0_shortest_17 rfl (lv_at hl 0 rfl) ?_
          refine lv_iload_n hx hb dX0_shortest_18 rfl (lv_at hl 1 rfl) ?_
          refine cl_v0 (As := [.int (nI i)]) (rest := []) (C := RX0) F (X_search l D cI cZ h r mk ss mv ht hr nx fw bw kd fr tt st en ln lv cm G dv i hX0 hdv hi) (lw_V q134 q136 qs3 q20 q137) 1 rfl (by decide +kernel) ⟨Nat.le_of_ble_eq_true rfl, Nat.le_of_ble_eq_true rfl⟩ ⟨rfl, rfl⟩ ⟨Nat.zero_le _, Nat.zero_le _⟩ hK hP hD hS hA 0 0 rfl rfl hl.1 rfl (Nat.le_of_ble_eq_true rfl) dX0_shortest_19 (fun u H locs hsw hP hD hS => ?_)
          obtain ⟨hr1, nx1, ln1, lv1, cm1⟩ := u
          have hP : va_P D vwCl (xw cI h r mk ss mv ht hr1 nx1 fw bw kd fr tt st en ln1 lv1 cm1) H := hP
          have hD : va_D A (xw cI h r mk ss mv ht hr1 nx1 fw bw kd fr tt st en ln1 lv1 cm1) := hD
          dsimp only at hsw
          refine lv_aload_n hx hb dX0_shortest_22 rfl (lv_at hl 0 rfl) ?_
          refine lv_iload_n hx hb dX0_shortest_23 rfl (lv_at hl 2 rfl) ?_
          refine cl_i0 (As := [.int (nI j)]) (rest := []) (C := RX0) F (X_lengthTo l D cI cZ h r mk ss mv ht hr1 nx1 fw bw kd fr tt st en ln1 lv1 cm1 j hht (hen j hj)) (lw_V q158 q160 qs9 q20 q161) 1 rfl (by decide +kernel) ⟨Nat.le_of_ble_eq_true rfl, Nat.le_of_ble_eq_true rfl⟩ ⟨rfl, rfl⟩ ⟨Nat.zero_le _, Nat.zero_le _⟩ hK hP hD hS hA 0 0 rfl rfl hl.1 rfl (Nat.le_of_ble_eq_true rfl) dX0_shortest_24 (fun r2 u H locs hw2 hP hD hS => ?_)
          have hP : va_P D vwCl (xw cI h r mk ss mv ht hr1 nx1 fw bw kd fr tt st en ln1 lv1 cm1) H := hP
          have hD : va_D A (xw cI h r mk ss mv ht hr1 nx1 fw bw kd fr tt st en ln1 lv1 cm1) := hD
          rw [hsw j hj] at hw2
          subst hw2
          refine lv_istore_n (lv' := [(3, .int (nI (dv i j) - 1)), (0, .ref h), (1, .int (nI i)), (2, .int (nI j))]) hx hb dX0_shortest_27 rfl hl (by decide) rfl (fun ls hl => ?_)
          refine lv_iload_n hx hb dX0_shortest_28 rfl (lv_at hl 0 rfl) ?_
          refine xr_mge (tgt := 37) hx hb dX0_shortest_29 (by decide) (by have := hdl i j hi hj; omega) (fun c29 => ?_) (fun c29 => ?_)
          · refine lv_iload_n hx hb dX0_shortest_37 rfl (lv_at hl 0 rfl) ?_
            exact hend (nI (dv i j) - 1) (hr1, nx1, ln1, lv1, cm1) _ _ _ _ dX0_shortest_38 rfl (by rw [anShort_in dv hi hj, if_neg (by omega)]; obtain ⟨k, hk⟩ : ∃ k, dv i j = k + 1 := ⟨dv i j - 1, by omega⟩; rw [hk, nI_pred]; rfl) hP hD hS
          · refine lv_bipush (v := (-5)) hx hb dX0_shortest_32 (by decide) ?_
            refine lv_goto (tgt := 38) hx hb dX0_shortest_34 (by decide) ?_
            exact hend ((-5)) (hr1, nx1, ln1, lv1, cm1) _ _ _ _ dX0_shortest_38 rfl (by rw [anShort_in dv hi hj, if_pos c29]) hP hD hS
        · omega
      · refine xr_if_eq (tgt := 17) hx hb dX0_shortest_11 (by decide) (by omega) (fun c11 => ?_) (fun c11 => ?_)
        · omega
        · refine lv_bipush (v := (-2)) hx hb dX0_shortest_14 (by decide) ?_
          exact hend ((-2)) (hr, nx, ln, lv, cm) _ _ _ _ dX0_shortest_16 rfl (anShort_out dv (by rintro ⟨q1, q2⟩; first | exact hw q1 | exact hw q2)).symm hP hD hS
  · refine xr_if_ne (tgt := 14) hx hb dX0_shortest_4 (by decide) (by omega) (fun c4 => ?_) (fun c4 => ?_)
    · refine lv_bipush (v := (-2)) hx hb dX0_shortest_14 (by decide) ?_
      exact hend ((-2)) (hr, nx, ln, lv, cm) _ _ _ _ dX0_shortest_16 rfl (anShort_out dv (by rintro ⟨q1, q2⟩; first | exact hw q1 | exact hw q2)).symm hP hD hS
    · omega
set_option maxHeartbeats 4000000 in
set_option maxRecDepth 100000 in
theorem X_reachFrom (l : Launch) (D : va_G) (cI cZ : ClassId) (h : Nat) (r : Nat → Nat) (mk ss mv ht hr nx : Nat) (fw bw kd fr tt st en ln lv cm : Nat → Nat) (G : GR) (dv : Nat → Nat → Nat) (hX : XOK G mk ss mv ht fw bw kd fr tt st en) (hdv : xDV G mv ht kd fr tt st en dv) (a : Nat) (ha : a < 8) :
    ct_i l yX0_reachFrom cX0_reachFrom 5 .int (rmL 5 119) D (tyL cI cZ) [.ref h, .int (nI a)] (xw cI h r mk ss mv ht hr nx fw bw kd fr tt st en ln lv cm) (Nat × Nat × (Nat → Nat) × (Nat → Nat) × (Nat → Nat)) (fun x _ => x = nI (mk8 (dv a) 8)) (fun u => xw cI h r mk ss mv ht u.1 u.2.1 fw bw kd fr tt st en u.2.2.1 u.2.2.2.1 u.2.2.2.2) := by
  refine ct_i_of (by decide) (Nat.le_of_ble_eq_true rfl) ?_
  intro p e s m args below meth c A Q ls F hK hP hD hS hA hend hl
  have F : CallFix p m c cX0_reachFrom 5 s args lw_all RX0 := F
  obtain ⟨hx, hb, hml, hown, hts⟩ := id F
  have hl : lv_has ls 5 [(0, .ref h), (1, .int (nI a))] := hl
  have hX0 := hX
  have hdl : ∀ a b, a < 8 → b < 8 → dv a b ≤ 224 := fun a b ha hb => hdv.le hX ha hb
  obtain ⟨⟨hG, hfw, hbw, hGf, hGb⟩, hmv, hss, hht, hmk, hmm, hst⟩ := hX
  have hen : ∀ b, b < 8 → 0 < ht → en (ht - 1) * 8 + b < 224 := fun b hb h0 => by
    have := hst (ht - 1) (by omega)
    omega
  refine lv_aload_n hx hb dX0_reachFrom_0 rfl (lv_at hl 0 rfl) ?_
  refine lv_iload_n hx hb dX0_reachFrom_1 rfl (lv_at hl 1 rfl) ?_
  refine cl_v0 (As := [.int (nI a)]) (rest := []) (C := RX0) F (X_search l D cI cZ h r mk ss mv ht hr nx fw bw kd fr tt st en ln lv cm G dv a hX0 hdv ha) (lw_V q134 q136 qs3 q20 q137) 1 rfl (by decide +kernel) ⟨Nat.le_of_ble_eq_true rfl, Nat.le_of_ble_eq_true rfl⟩ ⟨rfl, rfl⟩ ⟨Nat.zero_le _, Nat.zero_le _⟩ hK hP hD hS hA 0 0 rfl rfl hl.1 rfl (Nat.le_of_ble_eq_true rfl) dX0_reachFrom_2 (fun u H locs hsw hP hD hS => ?_)
  obtain ⟨hr1, nx1, ln1, lv1, cm1⟩ := u
  have hP : va_P D vwCl (xw cI h r mk ss mv ht hr1 nx1 fw bw kd fr tt st en ln1 lv1 cm1) H := hP
  have hD : va_D A (xw cI h r mk ss mv ht hr1 nx1 fw bw kd fr tt st en ln1 lv1 cm1) := hD
  dsimp only at hsw
  refine lv_iconst (v := nI 0) hx hb dX0_reachFrom_5 (by decide) ?_
  refine lv_istore_n (lv' := [(2, .int (nI 0)), (0, .ref h), (1, .int (nI a))]) hx hb dX0_reachFrom_6 rfl hl (by decide) rfl (fun ls hl => ?_)
  refine lv_iconst (v := nI 0) hx hb dX0_reachFrom_7 (by decide) ?_
  refine lv_istore_n (lv' := [(3, .int (nI 0)), (2, .int (nI 0)), (0, .ref h), (1, .int (nI a))]) hx hb dX0_reachFrom_8 rfl hl (by decide) rfl (fun ls hl => ?_)
  have loop : ∀ (n : Nat) (b : Nat) (H : Heap) (locs : List Loc) (ls : Array Slot), (b ≤ 8) → (9 ≤ b + n) → va_P D vwCl (xw cI h r mk ss mv ht hr1 nx1 fw bw kd fr tt st en ln1 lv1 cm1) H → va_D A (xw cI h r mk ss mv ht hr1 nx1 fw bw kd fr tt st en ln1 lv1 cm1) → va_S A s.heap H locs → lv_has ls 5 [(0, .ref h), (1, .int (nI a)), (2, .int (nI (mk8 (dv a) b))), (3, .int (nI b))] → W p l e (rmL 5 119) s m args below meth c H locs 0 0 Q (F0 m 9 ls []) := by
    intro n
    induction n with
    | zero =>
      intro b H locs ls hbb hn hP hD hS hl
      omega
    | succ n ih =>
      intro b H locs ls hbb hn hP hD hS hl
      refine lv_iload_n hx hb dX0_reachFrom_9 rfl (lv_at hl 3 rfl) ?_
      refine lv_bipush (v := nI 8) hx hb dX0_reachFrom_10 (by decide) ?_
      refine xr_icmp_ge (tgt := 39) hx hb dX0_reachFrom_12 (by decide) (by omega) (by omega) (fun c12 => ?_) (fun c12 => ?_)
      · refine lv_iload_n hx hb dX0_reachFrom_39 rfl (lv_at hl 2 rfl) ?_
        exact hend (nI (mk8 (dv a) b)) (hr1, nx1, ln1, lv1, cm1) _ _ _ _ dX0_reachFrom_40 rfl (by rw [show b = 8 by omega]) hP hD hS
      · refine lv_aload_n hx hb dX0_reachFrom_15 rfl (lv_at hl 0 rfl) ?_
        refine lv_iload_n hx hb dX0_reachFrom_16 rfl (lv_at hl 3 rfl) ?_
        refine cl_i0 (As := [.int (nI b)]) (rest := []) (C := RX0) F (X_lengthTo l D cI cZ h r mk ss mv ht hr1 nx1 fw bw kd fr tt st en ln1 lv1 cm1 b hht (hen b c12)) (lw_V q158 q160 qs9 q20 q161) 1 rfl (by decide +kernel) ⟨Nat.le_of_ble_eq_true rfl, Nat.le_of_ble_eq_true rfl⟩ ⟨rfl, rfl⟩ ⟨Nat.zero_le _, Nat.zero_le _⟩ hK hP hD hS hA 0 0 rfl rfl hl.1 rfl (Nat.le_of_ble_eq_true rfl) dX0_reachFrom_17 (fun r2 u H locs hw2 hP hD hS => ?_)
        have hP : va_P D vwCl (xw cI h r mk ss mv ht hr1 nx1 fw bw kd fr tt st en ln1 lv1 cm1) H := hP
        have hD : va_D A (xw cI h r mk ss mv ht hr1 nx1 fw bw kd fr tt st en ln1 lv1 cm1) := hD
        rw [hsw b c12] at hw2
        subst hw2
        refine lv_istore (lv' := [(4, .int (nI (dv a b) - 1)), (0, .ref h), (1, .int (nI a)), (2, .int (nI (mk8 (dv a) b))), (3, .int (nI b))]) hx hb dX0_reachFrom_20 hl (by decide) rfl (fun ls hl => ?_)
        refine lv_iload hx hb dX0_reachFrom_22 (lv_at hl 0 rfl) ?_
        refine xr_mlt (tgt := 33) hx hb dX0_reachFrom_24 (by decide) (by have := hdl a b ha c12; omega) (fun c24 => ?_) (fun c24 => ?_)
        · refine xr_iinc (lv' := [(3, .int (nI (b + 1))), (4, .int (nI (dv a b) - 1)), (0, .ref h), (1, .int (nI a)), (2, .int (nI (mk8 (dv a) b)))]) (k := 4) hx hb dX0_reachFrom_33 hl rfl (by decide) rfl (fun ls hl => ?_)
          refine lv_goto (tgt := 9) hx hb dX0_reachFrom_36 (by decide) ?_
          have e1 : mk8 (dv a) (b + 1) = mk8 (dv a) b := by rw [mk8, if_pos c24]
          rw [← e1] at hl
          exact ih (b + 1) _ _ _ (by omega) (by omega) hP hD hS (lv_sub hl [2, 3, 4, 0] rfl)
        · refine lv_iload_n hx hb dX0_reachFrom_27 rfl (lv_at hl 3 rfl) ?_
          refine lv_iconst (v := nI 1) hx hb dX0_reachFrom_28 (by decide) ?_
          refine lv_iload_n hx hb dX0_reachFrom_29 rfl (lv_at hl 4 rfl) ?_
          refine xr_ishl1 hx hb dX0_reachFrom_30 (by omega) ?_
          refine xr_ior hx hb dX0_reachFrom_31 ?_
          refine lv_istore_n (lv' := [(2, .int (nI ((mk8 (dv a) b) ||| (2 ^ b)))), (4, .int (nI (dv a b) - 1)), (0, .ref h), (1, .int (nI a)), (3, .int (nI b))]) hx hb dX0_reachFrom_32 rfl hl (by decide) rfl (fun ls hl => ?_)
          refine xr_iinc (lv' := [(3, .int (nI (b + 1))), (2, .int (nI ((mk8 (dv a) b) ||| (2 ^ b)))), (4, .int (nI (dv a b) - 1)), (0, .ref h), (1, .int (nI a))]) (k := 4) hx hb dX0_reachFrom_33 hl rfl (by decide) rfl (fun ls hl => ?_)
          refine lv_goto (tgt := 9) hx hb dX0_reachFrom_36 (by decide) ?_
          have e1 : mk8 (dv a) (b + 1) = (mk8 (dv a) b) ||| (2 ^ b) := by rw [mk8, if_neg (by omega)]
          rw [← e1] at hl
          exact ih (b + 1) _ _ _ (by omega) (by omega) hP hD hS (lv_sub hl [3, 4, 1, 0] rfl)
  exact loop 9 0 _ _ _ (by omega) (by omega) hP hD hS (lv_sub hl [2, 3, 1, 0] rfl)
set_option maxHeartbeats 4000000 in
set_option maxRecDepth 100000 in
theorem X_reach (l : Launch) (D : va_G) (cI cZ : ClassId) (h : Nat) (r : Nat → Nat) (mk ss mv ht hr nx : Nat) (fw bw kd fr tt st en ln lv cm : Nat → Nat) (G : GR) (dv : Nat → Nat → Nat) (hX : XOK G mk ss mv ht fw bw kd fr tt st en) (hdv : xDV G mv ht kd fr tt st en dv) (a : Int32) :
    ct_i l yX0_reach cX0_reach 2 .int (rmL 6 143) D (tyL cI cZ) [.ref h, .int a] (xw cI h r mk ss mv ht hr nx fw bw kd fr tt st en ln lv cm) (Nat × Nat × (Nat → Nat) × (Nat → Nat) × (Nat → Nat)) (fun x _ => x = anReach dv a) (fun u => xw cI h r mk ss mv ht u.1 u.2.1 fw bw kd fr tt st en u.2.2.1 u.2.2.2.1 u.2.2.2.2) := by
  refine ct_i_of (by decide) (Nat.le_of_ble_eq_true rfl) ?_
  intro p e s m args below meth c A Q ls F hK hP hD hS hA hend hl
  have F : CallFix p m c cX0_reach 2 s args lw_all RX0 := F
  obtain ⟨hx, hb, hml, hown, hts⟩ := id F
  have hl : lv_has ls 2 [(0, .ref h), (1, .int a)] := hl
  have hX0 := hX
  have hdl : ∀ a b, a < 8 → b < 8 → dv a b ≤ 224 := fun a b ha hb => hdv.le hX ha hb
  obtain ⟨⟨hG, hfw, hbw, hGf, hGb⟩, hmv, hss, hht, hmk, hmm, hst⟩ := hX
  have hen : ∀ b, b < 8 → 0 < ht → en (ht - 1) * 8 + b < 224 := fun b hb h0 => by
    have := hst (ht - 1) (by omega)
    omega
  refine lv_iload_n hx hb dX0_reach_0 rfl (lv_at hl 1 rfl) ?_
  refine cs_i0 (As := [.int a]) (rest := []) F (X_badNode l D cI cZ (xw cI h r mk ss mv ht hr nx fw bw kd fr tt st en ln lv cm) a) (lw_S q131 q132 q20 q133) 1 rfl (by decide +kernel) ⟨Nat.le_of_ble_eq_true rfl, Nat.le_of_ble_eq_true rfl⟩ ⟨rfl, rfl⟩ ⟨Nat.zero_le _, Nat.zero_le _⟩ hK hP hD hS hA hl.1 rfl (Nat.le_of_ble_eq_true rfl) dX0_reach_1 (fun r1 u H locs hw hP hD hS => ?_)
  have hP : va_P D vwCl (xw cI h r mk ss mv ht hr nx fw bw kd fr tt st en ln lv cm) H := hP
  have hD : va_D A (xw cI h r mk ss mv ht hr nx fw bw kd fr tt st en ln lv cm) := hD
  rcases hw with ⟨rfl, hw⟩ | ⟨rfl, hw⟩
  · obtain ⟨i, hi, rfl⟩ := hw
    refine xr_if_eq (tgt := 10) hx hb dX0_reach_4 (by decide) (by omega) (fun c4 => ?_) (fun c4 => ?_)
    · refine lv_aload_n hx hb dX0_reach_10 rfl (lv_at hl 0 rfl) ?_
      refine lv_iload_n hx hb dX0_reach_11 rfl (lv_at hl 1 rfl) ?_
      refine cl_i0 (As := [.int (nI i)]) (rest := []) (C := RX0) F (X_reachFrom l D cI cZ h r mk ss mv ht hr nx fw bw kd fr tt st en ln lv cm G dv hX0 hdv i hi) (lw_V q170 q172 qs10 q20 q173) 1 rfl (by decide +kernel) ⟨Nat.le_of_ble_eq_true rfl, Nat.le_of_ble_eq_true rfl⟩ ⟨rfl, rfl⟩ ⟨Nat.zero_le _, Nat.zero_le _⟩ hK hP hD hS hA 0 0 rfl rfl hl.1 rfl (Nat.le_of_ble_eq_true rfl) dX0_reach_12 (fun r1 u H locs hw hP hD hS => ?_)
      obtain ⟨hr2, nx2, ln2, lv2, cm2⟩ := u
      have hP : va_P D vwCl (xw cI h r mk ss mv ht hr2 nx2 fw bw kd fr tt st en ln2 lv2 cm2) H := hP
      have hD : va_D A (xw cI h r mk ss mv ht hr2 nx2 fw bw kd fr tt st en ln2 lv2 cm2) := hD
      subst hw
      exact hend (nI (mk8 (dv i) 8)) (hr2, nx2, ln2, lv2, cm2) _ _ _ _ dX0_reach_15 rfl (anReach_in dv hi).symm hP hD hS
    · omega
  · refine xr_if_eq (tgt := 10) hx hb dX0_reach_4 (by decide) (by omega) (fun c4 => ?_) (fun c4 => ?_)
    · omega
    · refine lv_bipush (v := (-2)) hx hb dX0_reach_7 (by decide) ?_
      exact hend ((-2)) (hr, nx, ln, lv, cm) _ _ _ _ dX0_reach_9 rfl (anReach_out dv hw).symm hP hD hS
set_option maxHeartbeats 4000000 in
set_option maxRecDepth 100000 in
theorem X_pairs (l : Launch) (D : va_G) (cI cZ : ClassId) (h : Nat) (r : Nat → Nat) (mk ss mv ht hr nx : Nat) (fw bw kd fr tt st en ln lv cm : Nat → Nat) (G : GR) (dv : Nat → Nat → Nat) (hX : XOK G mk ss mv ht fw bw kd fr tt st en) (hdv : xDV G mv ht kd fr tt st en dv) :
    ct_i l yX0_pairs cX0_pairs 5 .int (rmL 6 143) D (tyL cI cZ) [.ref h] (xw cI h r mk ss mv ht hr nx fw bw kd fr tt st en ln lv cm) (Nat × Nat × (Nat → Nat) × (Nat → Nat) × (Nat → Nat)) (fun x _ => x = nI (ctp dv 64)) (fun u => xw cI h r mk ss mv ht u.1 u.2.1 fw bw kd fr tt st en u.2.2.1 u.2.2.2.1 u.2.2.2.2) := by
  refine ct_i_of (by decide) (Nat.le_of_ble_eq_true rfl) ?_
  intro p e s m args below meth c A Q ls F hK hP hD hS hA hend hl
  have F : CallFix p m c cX0_pairs 5 s args lw_all RX0 := F
  obtain ⟨hx, hb, hml, hown, hts⟩ := id F
  have hl : lv_has ls 5 [(0, .ref h)] := hl
  have hX0 := hX
  have hdl : ∀ a b, a < 8 → b < 8 → dv a b ≤ 224 := fun a b ha hb => hdv.le hX ha hb
  obtain ⟨⟨hG, hfw, hbw, hGf, hGb⟩, hmv, hss, hht, hmk, hmm, hst⟩ := hX
  have hen : ∀ b, b < 8 → 0 < ht → en (ht - 1) * 8 + b < 224 := fun b hb h0 => by
    have := hst (ht - 1) (by omega)
    omega
  refine lv_iconst (v := nI 0) hx hb dX0_pairs_0 (by decide) ?_
  refine lv_istore_n (lv' := [(1, .int (nI 0)), (0, .ref h)]) hx hb dX0_pairs_1 rfl hl (by decide) rfl (fun ls hl => ?_)
  refine lv_iconst (v := nI 0) hx hb dX0_pairs_2 (by decide) ?_
  refine lv_istore_n (lv' := [(2, .int (nI 0)), (1, .int (nI 0)), (0, .ref h)]) hx hb dX0_pairs_3 rfl hl (by decide) rfl (fun ls hl => ?_)
  have loop : ∀ (n : Nat) (a : Nat) (hr1 : Nat) (nx1 : Nat) (ln1 : Nat → Nat) (lv1 : Nat → Nat) (cm1 : Nat → Nat) (H : Heap) (locs : List Loc) (ls : Array Slot), (a ≤ 8) → (9 ≤ a + n) → va_P D vwCl (xw cI h r mk ss mv ht hr1 nx1 fw bw kd fr tt st en ln1 lv1 cm1) H → va_D A (xw cI h r mk ss mv ht hr1 nx1 fw bw kd fr tt st en ln1 lv1 cm1) → va_S A s.heap H locs → lv_has ls 5 [(0, .ref h), (1, .int (nI (ctp dv (8 * a)))), (2, .int (nI a))] → W p l e (rmL 6 143) s m args below meth c H locs 0 0 Q (F0 m 4 ls []) := by
    intro n
    induction n with
    | zero =>
      intro a hr1 nx1 ln1 lv1 cm1 H locs ls hi hn hP hD hS hl
      omega
    | succ n ih =>
      intro a hr1 nx1 ln1 lv1 cm1 H locs ls hi hn hP hD hS hl
      refine lv_iload_n hx hb dX0_pairs_4 rfl (lv_at hl 2 rfl) ?_
      refine lv_bipush (v := nI 8) hx hb dX0_pairs_5 (by decide) ?_
      refine xr_icmp_ge (tgt := 47) hx hb dX0_pairs_7 (by decide) (by omega) (by omega) (fun c7 => ?_) (fun c7 => ?_)
      · refine lv_iload_n hx hb dX0_pairs_47 rfl (lv_at hl 1 rfl) ?_
        exact hend (nI (ctp dv (8 * a))) (hr1, nx1, ln1, lv1, cm1) _ _ _ _ dX0_pairs_48 rfl (by rw [show a = 8 by omega]) hP hD hS
      · refine lv_aload_n hx hb dX0_pairs_10 rfl (lv_at hl 0 rfl) ?_
        refine lv_iload_n hx hb dX0_pairs_11 rfl (lv_at hl 2 rfl) ?_
        refine cl_i0 (As := [.int (nI a)]) (rest := []) (C := RX0) F (X_reachFrom l D cI cZ h r mk ss mv ht hr1 nx1 fw bw kd fr tt st en ln1 lv1 cm1 G dv hX0 hdv a c7) (lw_V q170 q172 qs10 q20 q173) 1 rfl (by decide +kernel) ⟨Nat.le_of_ble_eq_true rfl, Nat.le_of_ble_eq_true rfl⟩ ⟨rfl, rfl⟩ ⟨Nat.zero_le _, Nat.zero_le _⟩ hK hP hD hS hA 0 0 rfl rfl hl.1 rfl (Nat.le_of_ble_eq_true rfl) dX0_pairs_12 (fun r1 u H locs hw hP hD hS => ?_)
        obtain ⟨hr2, nx2, ln2, lv2, cm2⟩ := u
        have hP : va_P D vwCl (xw cI h r mk ss mv ht hr2 nx2 fw bw kd fr tt st en ln2 lv2 cm2) H := hP
        have hD : va_D A (xw cI h r mk ss mv ht hr2 nx2 fw bw kd fr tt st en ln2 lv2 cm2) := hD
        subst hw
        refine lv_istore_n (lv' := [(3, .int (nI (mk8 (dv a) 8))), (0, .ref h), (1, .int (nI (ctp dv (8 * a)))), (2, .int (nI a))]) hx hb dX0_pairs_15 rfl hl (by decide) rfl (fun ls hl => ?_)
        refine lv_iconst (v := nI 0) hx hb dX0_pairs_16 (by decide) ?_
        refine lv_istore (lv' := [(4, .int (nI 0)), (3, .int (nI (mk8 (dv a) 8))), (0, .ref h), (1, .int (nI (ctp dv (8 * a)))), (2, .int (nI a))]) hx hb dX0_pairs_17 hl (by decide) rfl (fun ls hl => ?_)
        have loop2 : ∀ (n2 : Nat) (b : Nat) (H : Heap) (locs : List Loc) (ls : Array Slot), (b ≤ 8) → (9 ≤ b + n2) → va_P D vwCl (xw cI h r mk ss mv ht hr2 nx2 fw bw kd fr tt st en ln2 lv2 cm2) H → va_D A (xw cI h r mk ss mv ht hr2 nx2 fw bw kd fr tt st en ln2 lv2 cm2) → va_S A s.heap H locs → lv_has ls 5 [(0, .ref h), (1, .int (nI (ctp dv (8 * a + b)))), (2, .int (nI a)), (3, .int (nI (mk8 (dv a) 8))), (4, .int (nI b))] → W p l e (rmL 6 143) s m args below meth c H locs 0 0 Q (F0 m 19 ls []) := by
          intro n2
          induction n2 with
          | zero =>
            intro b H locs ls hbb hn2 hP hD hS hl
            omega
          | succ n2 ih2 =>
            intro b H locs ls hbb hn2 hP hD hS hl
            refine lv_iload hx hb dX0_pairs_19 (lv_at hl 4 rfl) ?_
            refine lv_bipush (v := nI 8) hx hb dX0_pairs_21 (by decide) ?_
            refine xr_icmp_ge (tgt := 41) hx hb dX0_pairs_23 (by decide) (by omega) (by omega) (fun c23 => ?_) (fun c23 => ?_)
            · refine xr_iinc (lv' := [(2, .int (nI (a + 1))), (0, .ref h), (1, .int (nI (ctp dv (8 * a + b)))), (3, .int (nI (mk8 (dv a) 8))), (4, .int (nI b))]) (k := 2) hx hb dX0_pairs_41 hl rfl (by decide) rfl (fun ls hl => ?_)
              refine lv_goto (tgt := 4) hx hb dX0_pairs_44 (by decide) ?_
              rw [show 8 * a + b = 8 * (a + 1) by omega] at hl
              exact ih (a + 1) hr2 nx2 ln2 lv2 cm2 _ _ _ (by omega) (by omega) hP hD hS (lv_sub hl [1, 2, 0] rfl)
            · refine lv_iload_n hx hb dX0_pairs_26 rfl (lv_at hl 1 rfl) ?_
              refine lv_iload_n hx hb dX0_pairs_27 rfl (lv_at hl 3 rfl) ?_
              refine lv_iload hx hb dX0_pairs_28 (lv_at hl 4 rfl) ?_
              refine xr_ishr hx hb dX0_pairs_30 (by have := mk8_lt (dv a) 8; omega) (by have := mk8_lt (dv a) 8; omega) ?_
              refine lv_iconst (v := nI 1) hx hb dX0_pairs_31 (by decide) ?_
              refine xr_iand hx hb dX0_pairs_32 ?_
              refine xr_iadd hx hb dX0_pairs_33 ?_
              refine lv_istore_n (lv' := [(1, .int (nI ((ctp dv (8 * a + b)) + (((mk8 (dv a) 8) / 2 ^ b) &&& 1)))), (0, .ref h), (2, .int (nI a)), (3, .int (nI (mk8 (dv a) 8))), (4, .int (nI b))]) hx hb dX0_pairs_34 rfl hl (by decide) rfl (fun ls hl => ?_)
              refine xr_iinc (lv' := [(4, .int (nI (b + 1))), (1, .int (nI ((ctp dv (8 * a + b)) + (((mk8 (dv a) 8) / 2 ^ b) &&& 1)))), (0, .ref h), (2, .int (nI a)), (3, .int (nI (mk8 (dv a) 8)))]) (k := 4) hx hb dX0_pairs_35 hl rfl (by decide) rfl (fun ls hl => ?_)
              refine lv_goto (tgt := 19) hx hb dX0_pairs_38 (by decide) ?_
              have e1 : ctp dv (8 * a + (b + 1)) = ctp dv (8 * a + b) + (mk8 (dv a) 8 / 2 ^ b &&& 1) := by
                rw [mk8_and1 _ c23, show 8 * a + (b + 1) = (8 * a + b) + 1 by omega, ctp, show (8 * a + b) / 8 = a by omega, show (8 * a + b) % 8 = b by omega]
              rw [← e1] at hl
              exact ih2 (b + 1) _ _ _ (by omega) (by omega) hP hD hS (lv_sub hl [2, 1, 3, 4, 0] rfl)
        exact loop2 9 0 _ _ _ (by omega) (by omega) hP hD hS (lv_sub hl [2, 3, 4, 1, 0] rfl)
  exact loop 9 0 hr nx ln lv cm _ _ _ (by omega) (by omega) hP hD hS (lv_sub hl [2, 1, 0] rfl)
set_option maxHeartbeats 4000000 in
set_option maxRecDepth 100000 in
theorem X_loops (l : Launch) (D : va_G) (cI cZ : ClassId) (h : Nat) (r : Nat → Nat) (mk ss mv ht hr nx : Nat) (fw bw kd fr tt st en ln lv cm : Nat → Nat) (G : GR) (dv : Nat → Nat → Nat) (hX : XOK G mk ss mv ht fw bw kd fr tt st en) (hdv : xDV G mv ht kd fr tt st en dv) :
    ct_i l yX0_loops cX0_loops 4 .int (rmL 6 143) D (tyL cI cZ) [.ref h] (xw cI h r mk ss mv ht hr nx fw bw kd fr tt st en ln lv cm) (Nat × Nat × (Nat → Nat) × (Nat → Nat) × (Nat → Nat)) (fun x _ => x = nI (mk8 (fun a => dv a a) 8)) (fun u => xw cI h r mk ss mv ht u.1 u.2.1 fw bw kd fr tt st en u.2.2.1 u.2.2.2.1 u.2.2.2.2) := by
  refine ct_i_of (by decide) (Nat.le_of_ble_eq_true rfl) ?_
  intro p e s m args below meth c A Q ls F hK hP hD hS hA hend hl
  have F : CallFix p m c cX0_loops 4 s args lw_all RX0 := F
  obtain ⟨hx, hb, hml, hown, hts⟩ := id F
  have hl : lv_has ls 4 [(0, .ref h)] := hl
  have hX0 := hX
  have hdl : ∀ a b, a < 8 → b < 8 → dv a b ≤ 224 := fun a b ha hb => hdv.le hX ha hb
  obtain ⟨⟨hG, hfw, hbw, hGf, hGb⟩, hmv, hss, hht, hmk, hmm, hst⟩ := hX
  have hen : ∀ b, b < 8 → 0 < ht → en (ht - 1) * 8 + b < 224 := fun b hb h0 => by
    have := hst (ht - 1) (by omega)
    omega
  refine lv_iconst (v := nI 0) hx hb dX0_loops_0 (by decide) ?_
  refine lv_istore_n (lv' := [(1, .int (nI 0)), (0, .ref h)]) hx hb dX0_loops_1 rfl hl (by decide) rfl (fun ls hl => ?_)
  refine lv_iconst (v := nI 0) hx hb dX0_loops_2 (by decide) ?_
  refine lv_istore_n (lv' := [(2, .int (nI 0)), (1, .int (nI 0)), (0, .ref h)]) hx hb dX0_loops_3 rfl hl (by decide) rfl (fun ls hl => ?_)
  have loop : ∀ (n : Nat) (a : Nat) (hr1 : Nat) (nx1 : Nat) (ln1 : Nat → Nat) (lv1 : Nat → Nat) (cm1 : Nat → Nat) (H : Heap) (locs : List Loc) (ls : Array Slot), (a ≤ 8) → (9 ≤ a + n) → va_P D vwCl (xw cI h r mk ss mv ht hr1 nx1 fw bw kd fr tt st en ln1 lv1 cm1) H → va_D A (xw cI h r mk ss mv ht hr1 nx1 fw bw kd fr tt st en ln1 lv1 cm1) → va_S A s.heap H locs → lv_has ls 4 [(0, .ref h), (1, .int (nI (mk8 (fun a => dv a a) a))), (2, .int (nI a))] → W p l e (rmL 6 143) s m args below meth c H locs 0 0 Q (F0 m 4 ls []) := by
    intro n
    induction n with
    | zero =>
      intro a hr1 nx1 ln1 lv1 cm1 H locs ls hi hn hP hD hS hl
      omega
    | succ n ih =>
      intro a hr1 nx1 ln1 lv1 cm1 H locs ls hi hn hP hD hS hl
      refine lv_iload_n hx hb dX0_loops_4 rfl (lv_at hl 2 rfl) ?_
      refine lv_bipush (v := nI 8) hx hb dX0_loops_5 (by decide) ?_
      refine xr_icmp_ge (tgt := 30) hx hb dX0_loops_7 (by decide) (by omega) (by omega) (fun c7 => ?_) (fun c7 => ?_)
      · refine lv_iload_n hx hb dX0_loops_30 rfl (lv_at hl 1 rfl) ?_
        exact hend (nI (mk8 (fun a => dv a a) a)) (hr1, nx1, ln1, lv1, cm1) _ _ _ _ dX0_loops_31 rfl (by rw [show a = 8 by omega]) hP hD hS
      · refine lv_aload_n hx hb dX0_loops_10 rfl (lv_at hl 0 rfl) ?_
        refine lv_iload_n hx hb dX0_loops_11 rfl (lv_at hl 2 rfl) ?_
        refine cl_i0 (As := [.int (nI a)]) (rest := []) (C := RX0) F (X_reachFrom l D cI cZ h r mk ss mv ht hr1 nx1 fw bw kd fr tt st en ln1 lv1 cm1 G dv hX0 hdv a c7) (lw_V q170 q172 qs10 q20 q173) 1 rfl (by decide +kernel) ⟨Nat.le_of_ble_eq_true rfl, Nat.le_of_ble_eq_true rfl⟩ ⟨rfl, rfl⟩ ⟨Nat.zero_le _, Nat.zero_le _⟩ hK hP hD hS hA 0 0 rfl rfl hl.1 rfl (Nat.le_of_ble_eq_true rfl) dX0_loops_12 (fun r1 u H locs hw hP hD hS => ?_)
        obtain ⟨hr2, nx2, ln2, lv2, cm2⟩ := u
        have hP : va_P D vwCl (xw cI h r mk ss mv ht hr2 nx2 fw bw kd fr tt st en ln2 lv2 cm2) H := hP
        have hD : va_D A (xw cI h r mk ss mv ht hr2 nx2 fw bw kd fr tt st en ln2 lv2 cm2) := hD
        subst hw
        refine lv_istore_n (lv' := [(3, .int (nI (mk8 (dv a) 8))), (0, .ref h), (1, .int (nI (mk8 (fun a => dv a a) a))), (2, .int (nI a))]) hx hb dX0_loops_15 rfl hl (by decide) rfl (fun ls hl => ?_)
        refine lv_iload_n hx hb dX0_loops_16 rfl (lv_at hl 2 rfl) ?_
        refine lv_iload_n hx hb dX0_loops_17 rfl (lv_at hl 0 rfl) ?_
        refine lv_iconst (v := nI 1) hx hb dX0_loops_18 (by decide) ?_
        refine lv_iload_n hx hb dX0_loops_19 rfl (lv_at hl 3 rfl) ?_
        refine xr_ishl1 hx hb dX0_loops_20 (by omega) ?_
        refine xr_iand hx hb dX0_loops_21 ?_
        refine xr_ior hx hb dX0_loops_22 ?_
        refine lv_istore_n (lv' := [(1, .int (nI ((mk8 (fun a => dv a a) a) ||| ((mk8 (dv a) 8) &&& (2 ^ a))))), (3, .int (nI (mk8 (dv a) 8))), (0, .ref h), (2, .int (nI a))]) hx hb dX0_loops_23 rfl hl (by decide) rfl (fun ls hl => ?_)
        refine xr_iinc (lv' := [(2, .int (nI (a + 1))), (1, .int (nI ((mk8 (fun a => dv a a) a) ||| ((mk8 (dv a) 8) &&& (2 ^ a))))), (3, .int (nI (mk8 (dv a) 8))), (0, .ref h)]) (k := 3) hx hb dX0_loops_24 hl rfl (by decide) rfl (fun ls hl => ?_)
        refine lv_goto (tgt := 4) hx hb dX0_loops_27 (by decide) ?_
        have e1 : mk8 (fun a => dv a a) (a + 1) = mk8 (fun a => dv a a) a ||| (mk8 (dv a) 8 &&& 2 ^ a) := by
          rw [mk8_andp _ c7, mk8]
          by_cases q : dv a a = 0
          · rw [if_pos q, if_pos q, Nat.or_zero]
          · rw [if_neg q, if_neg q]
        rw [← e1] at hl
        exact ih (a + 1) hr2 nx2 ln2 lv2 cm2 _ _ _ (by omega) (by omega) hP hD hS (lv_sub hl [3, 1, 0] rfl)
  exact loop 9 0 hr nx ln lv cm _ _ _ (by omega) (by omega) hP hD hS (lv_sub hl [2, 1, 0] rfl)
set_option maxHeartbeats 4000000 in
set_option maxRecDepth 100000 in
theorem X_widest (l : Launch) (D : va_G) (cI cZ : ClassId) (h : Nat) (r : Nat → Nat) (mk ss mv ht hr nx : Nat) (fw bw kd fr tt st en ln lv cm : Nat → Nat) (G : GR) (dv : Nat → Nat → Nat) (hX : XOK G mk ss mv ht fw bw kd fr tt st en) (hdv : xDV G mv ht kd fr tt st en dv) :
    ct_i l yX0_widest cX0_widest 5 .int (rmL 5 119) D (tyL cI cZ) [.ref h] (xw cI h r mk ss mv ht hr nx fw bw kd fr tt st en ln lv cm) (Nat × Nat × (Nat → Nat) × (Nat → Nat) × (Nat → Nat)) (fun x _ => x = anWide dv) (fun u => xw cI h r mk ss mv ht u.1 u.2.1 fw bw kd fr tt st en u.2.2.1 u.2.2.2.1 u.2.2.2.2) := by
  refine ct_i_of (by decide) (Nat.le_of_ble_eq_true rfl) ?_
  intro p e s m args below meth c A Q ls F hK hP hD hS hA hend hl
  have F : CallFix p m c cX0_widest 5 s args lw_all RX0 := F
  obtain ⟨hx, hb, hml, hown, hts⟩ := id F
  have hl : lv_has ls 5 [(0, .ref h)] := hl
  have hX0 := hX
  have hdl : ∀ a b, a < 8 → b < 8 → dv a b ≤ 224 := fun a b ha hb => hdv.le hX ha hb
  obtain ⟨⟨hG, hfw, hbw, hGf, hGb⟩, hmv, hss, hht, hmk, hmm, hst⟩ := hX
  have hen : ∀ b, b < 8 → 0 < ht → en (ht - 1) * 8 + b < 224 := fun b hb h0 => by
    have := hst (ht - 1) (by omega)
    omega
  refine lv_bipush (v := (-5)) hx hb dX0_widest_0 (by decide) ?_
  refine lv_istore_n (lv' := [(1, .int (-5)), (0, .ref h)]) hx hb dX0_widest_2 rfl hl (by decide) rfl (fun ls hl => ?_)
  refine lv_iconst (v := nI 0) hx hb dX0_widest_3 (by decide) ?_
  refine lv_istore_n (lv' := [(2, .int (nI 0)), (1, .int (-5)), (0, .ref h)]) hx hb dX0_widest_4 rfl hl (by decide) rfl (fun ls hl => ?_)
  have loop : ∀ (n : Nat) (a : Nat) (hr1 : Nat) (nx1 : Nat) (ln1 : Nat → Nat) (lv1 : Nat → Nat) (cm1 : Nat → Nat) (H : Heap) (locs : List Loc) (ls : Array Slot), (a ≤ 8) → (9 ≤ a + n) → va_P D vwCl (xw cI h r mk ss mv ht hr1 nx1 fw bw kd fr tt st en ln1 lv1 cm1) H → va_D A (xw cI h r mk ss mv ht hr1 nx1 fw bw kd fr tt st en ln1 lv1 cm1) → va_S A s.heap H locs → lv_has ls 5 [(0, .ref h), (1, .int (wv dv (8 * a))), (2, .int (nI a))] → W p l e (rmL 5 119) s m args below meth c H locs 0 0 Q (F0 m 5 ls []) := by
    intro n
    induction n with
    | zero =>
      intro a hr1 nx1 ln1 lv1 cm1 H locs ls hi hn hP hD hS hl
      omega
    | succ n ih =>
      intro a hr1 nx1 ln1 lv1 cm1 H locs ls hi hn hP hD hS hl
      refine lv_iload_n hx hb dX0_widest_5 rfl (lv_at hl 2 rfl) ?_
      refine lv_bipush (v := nI 8) hx hb dX0_widest_6 (by decide) ?_
      refine xr_icmp_ge (tgt := 52) hx hb dX0_widest_8 (by decide) (by omega) (by omega) (fun c8 => ?_) (fun c8 => ?_)
      · refine lv_iload_n hx hb dX0_widest_52 rfl (lv_at hl 1 rfl) ?_
        refine lv_if_ge (tgt := 61) hx hb dX0_widest_53 (by decide) (fun c53 => ?_) (fun c53 => ?_)
        · refine lv_iload_n hx hb dX0_widest_61 rfl (lv_at hl 1 rfl) ?_
          have e8 : a = 8 := by omega
          rw [e8] at c53
          exact hend (wv dv (8 * a)) (hr1, nx1, ln1, lv1, cm1) _ _ _ _ dX0_widest_62 rfl (by rw [e8]; exact ((anWide_of dv hdl).1 c53).symm) hP hD hS
        · refine lv_bipush (v := (-5)) hx hb dX0_widest_56 (by decide) ?_
          refine lv_goto (tgt := 62) hx hb dX0_widest_58 (by decide) ?_
          have e8 : a = 8 := by omega
          rw [e8] at c53
          exact hend ((-5)) (hr1, nx1, ln1, lv1, cm1) _ _ _ _ dX0_widest_62 rfl ((anWide_of dv hdl).2 c53).symm hP hD hS
      · refine lv_aload_n hx hb dX0_widest_11 rfl (lv_at hl 0 rfl) ?_
        refine lv_iload_n hx hb dX0_widest_12 rfl (lv_at hl 2 rfl) ?_
        refine cl_v0 (As := [.int (nI a)]) (rest := []) (C := RX0) F (X_search l D cI cZ h r mk ss mv ht hr1 nx1 fw bw kd fr tt st en ln1 lv1 cm1 G dv a hX0 hdv c8) (lw_V q134 q136 qs3 q20 q137) 1 rfl (by decide +kernel) ⟨Nat.le_of_ble_eq_true rfl, Nat.le_of_ble_eq_true rfl⟩ ⟨rfl, rfl⟩ ⟨Nat.zero_le _, Nat.zero_le _⟩ hK hP hD hS hA 0 0 rfl rfl hl.1 rfl (Nat.le_of_ble_eq_true rfl) dX0_widest_13 (fun u H locs hsw hP hD hS => ?_)
        obtain ⟨hr2, nx2, ln2, lv2, cm2⟩ := u
        have hP : va_P D vwCl (xw cI h r mk ss mv ht hr2 nx2 fw bw kd fr tt st en ln2 lv2 cm2) H := hP
        have hD : va_D A (xw cI h r mk ss mv ht hr2 nx2 fw bw kd fr tt st en ln2 lv2 cm2) := hD
        dsimp only at hsw
        refine lv_iconst (v := nI 0) hx hb dX0_widest_16 (by decide) ?_
        refine lv_istore_n (lv' := [(3, .int (nI 0)), (0, .ref h), (1, .int (wv dv (8 * a))), (2, .int (nI a))]) hx hb dX0_widest_17 rfl hl (by decide) rfl (fun ls hl => ?_)
        have loop2 : ∀ (n2 : Nat) (b : Nat) (H : Heap) (locs : List Loc) (ls : Array Slot), (b ≤ 8) → (9 ≤ b + n2) → va_P D vwCl (xw cI h r mk ss mv ht hr2 nx2 fw bw kd fr tt st en ln2 lv2 cm2) H → va_D A (xw cI h r mk ss mv ht hr2 nx2 fw bw kd fr tt st en ln2 lv2 cm2) → va_S A s.heap H locs → lv_has ls 5 [(0, .ref h), (1, .int (wv dv (8 * a + b))), (2, .int (nI a)), (3, .int (nI b))] → W p l e (rmL 5 119) s m args below meth c H locs 0 0 Q (F0 m 18 ls []) := by
          intro n2
          induction n2 with
          | zero =>
            intro b H locs ls hbb hn2 hP hD hS hl
            omega
          | succ n2 ih2 =>
            intro b H locs ls hbb hn2 hP hD hS hl
            refine lv_iload_n hx hb dX0_widest_18 rfl (lv_at hl 3 rfl) ?_
            refine lv_bipush (v := nI 8) hx hb dX0_widest_19 (by decide) ?_
            refine xr_icmp_ge (tgt := 46) hx hb dX0_widest_21 (by decide) (by omega) (by omega) (fun c21 => ?_) (fun c21 => ?_)
            · refine xr_iinc (lv' := [(2, .int (nI (a + 1))), (0, .ref h), (1, .int (wv dv (8 * a + b))), (3, .int (nI b))]) (k := 2) hx hb dX0_widest_46 hl rfl (by decide) rfl (fun ls hl => ?_)
              refine lv_goto (tgt := 5) hx hb dX0_widest_49 (by decide) ?_
              rw [show 8 * a + b = 8 * (a + 1) by omega] at hl
              exact ih (a + 1) hr2 nx2 ln2 lv2 cm2 _ _ _ (by omega) (by omega) hP hD hS (lv_sub hl [1, 2, 0] rfl)
            · refine lv_aload_n hx hb dX0_widest_24 rfl (lv_at hl 0 rfl) ?_
              refine lv_iload_n hx hb dX0_widest_25 rfl (lv_at hl 3 rfl) ?_
              refine cl_i0 (As := [.int (nI b)]) (rest := []) (C := RX0) F (X_lengthTo l D cI cZ h r mk ss mv ht hr2 nx2 fw bw kd fr tt st en ln2 lv2 cm2 b hht (hen b c21)) (lw_V q158 q160 qs9 q20 q161) 1 rfl (by decide +kernel) ⟨Nat.le_of_ble_eq_true rfl, Nat.le_of_ble_eq_true rfl⟩ ⟨rfl, rfl⟩ ⟨Nat.zero_le _, Nat.zero_le _⟩ hK hP hD hS hA 0 0 rfl rfl hl.1 rfl (Nat.le_of_ble_eq_true rfl) dX0_widest_26 (fun r2 u H locs hw2 hP hD hS => ?_)
              have hP : va_P D vwCl (xw cI h r mk ss mv ht hr2 nx2 fw bw kd fr tt st en ln2 lv2 cm2) H := hP
              have hD : va_D A (xw cI h r mk ss mv ht hr2 nx2 fw bw kd fr tt st en ln2 lv2 cm2) := hD
              rw [hsw b c21] at hw2
              subst hw2
              refine lv_istore (lv' := [(4, .int (nI (dv a b) - 1)), (0, .ref h), (1, .int (wv dv (8 * a + b))), (2, .int (nI a)), (3, .int (nI b))]) hx hb dX0_widest_29 hl (by decide) rfl (fun ls hl => ?_)
              refine lv_iload hx hb dX0_widest_31 (lv_at hl 0 rfl) ?_
              refine lv_iload_n hx hb dX0_widest_33 rfl (lv_at hl 2 rfl) ?_
              refine lv_icmp_le (tgt := 40) hx hb dX0_widest_34 (by decide) (fun c34 => ?_) (fun c34 => ?_)
              · refine xr_iinc (lv' := [(3, .int (nI (b + 1))), (4, .int (nI (dv a b) - 1)), (0, .ref h), (1, .int (wv dv (8 * a + b))), (2, .int (nI a))]) (k := 4) hx hb dX0_widest_40 hl rfl (by decide) rfl (fun ls hl => ?_)
                refine lv_goto (tgt := 18) hx hb dX0_widest_43 (by decide) ?_
                have e1 := wv_step dv hdl (k := 8 * a + b) (by omega)
                rw [show (8 * a + b) / 8 = a by omega, show (8 * a + b) % 8 = b by omega] at e1
                have e1 := e1.1 c34
                rw [← e1] at hl
                exact ih2 (b + 1) _ _ _ (by omega) (by omega) hP hD hS (lv_sub hl [2, 3, 4, 0] rfl)
              · refine lv_iload hx hb dX0_widest_37 (lv_at hl 0 rfl) ?_
                refine lv_istore_n (lv' := [(1, .int (nI (dv a b) - 1)), (4, .int (nI (dv a b) - 1)), (0, .ref h), (2, .int (nI a)), (3, .int (nI b))]) hx hb dX0_widest_39 rfl hl (by decide) rfl (fun ls hl => ?_)
                refine xr_iinc (lv' := [(3, .int (nI (b + 1))), (1, .int (nI (dv a b) - 1)), (4, .int (nI (dv a b) - 1)), (0, .ref h), (2, .int (nI a))]) (k := 4) hx hb dX0_widest_40 hl rfl (by decide) rfl (fun ls hl => ?_)
                refine lv_goto (tgt := 18) hx hb dX0_widest_43 (by decide) ?_
                have e1 := wv_step dv hdl (k := 8 * a + b) (by omega)
                rw [show (8 * a + b) / 8 = a by omega, show (8 * a + b) % 8 = b by omega] at e1
                have e1 := e1.2 c34
                rw [← e1] at hl
                exact ih2 (b + 1) _ _ _ (by omega) (by omega) hP hD hS (lv_sub hl [3, 1, 4, 0] rfl)
        exact loop2 9 0 _ _ _ (by omega) (by omega) hP hD hS (lv_sub hl [1, 2, 3, 0] rfl)
  exact loop 9 0 hr nx ln lv cm _ _ _ (by omega) (by omega) hP hD hS (lv_sub hl [2, 1, 0] rfl)
end
section
/-! what the building methods do -/
abbrev XA : Type := Nat × Nat × Nat × Nat × (Nat → Nat) × (Nat → Nat) × (Nat → Nat) × (Nat → Nat) × (Nat → Nat)
abbrev xwA (cI : ClassId) (h : Nat) (r : Nat → Nat) (u : XA) (hr nx : Nat) (fw bw ln lv cm : Nat → Nat) : va_W :=
  xw cI h r u.1 u.2.1 u.2.2.1 u.2.2.2.1 hr nx fw bw u.2.2.2.2.1 u.2.2.2.2.2.1 u.2.2.2.2.2.2.1 u.2.2.2.2.2.2.2.1 u.2.2.2.2.2.2.2.2 ln lv cm
theorem rf_0 {mk ht t : Nat} (h : rf mk ht t = 0) : mk < 14 ∧ (t = 0 → ht < 6) ∧ t ≤ ht := by
  unfold rf at h
  by_cases q : 14 ≤ mk ∨ (t = 0 ∧ 6 ≤ ht)
  · rw [if_pos q] at h
    exact absurd h (by decide)
  · rw [if_neg q] at h
    by_cases z : ht < t
    · rw [if_pos z] at h
      exact absurd h (by decide)
    · omega
def cb (x b : Nat) : Nat := x &&& (255 ^^^ 2 ^ b)
def sb (x b t : Nat) : Nat := if t = 0 then cb x b else cb x b ||| 2 ^ b
set_option maxRecDepth 100000 in
theorem cb_eq : ∀ b, b < 8 → ∀ x, x < 256 → nI x &&& (nI (2 ^ b) ^^^ (-1)) = nI (cb x b) := by decide +kernel
theorem cb_lt (x b : Nat) (h : x < 256) : cb x b < 256 := Nat.lt_of_le_of_lt Nat.and_le_left h
theorem sb_lt (x b t : Nat) (h : x < 256) (hb : b < 8) : sb x b t < 256 := by
  unfold sb
  have h1 := cb_lt x b h
  split
  · exact h1
  · have h2 : 2 ^ b < 2 ^ 8 := Nat.pow_lt_pow_right (by decide) hb
    exact Nat.or_lt_two_pow (n := 8) h1 h2
set_option maxRecDepth 100000 in
theorem t255 : ∀ i, i < 8 → (255 : Nat).testBit i = true := by decide
theorem cb_bit (x b i : Nat) (hi : i < 8) : (cb x b).testBit i = (x.testBit i && !decide (b = i)) := by
  unfold cb
  rw [Nat.testBit_and, Nat.testBit_xor, t255 i hi, Nat.testBit_two_pow]
  simp
theorem sb_bit (x b t i : Nat) (hi : i < 8) : (sb x b t).testBit i = if i = b then decide (t ≠ 0) else x.testBit i := by
  unfold sb
  by_cases q : t = 0
  · rw [if_pos q, cb_bit x b i hi]
    by_cases e : i = b
    · simp [e, q]
    · have : ¬ b = i := fun z => e z.symm
      simp [e, this]
  · rw [if_neg q, fb_bit_set, cb_bit x b i hi]
    by_cases e : i = b
    · simp [e, q]
    · have : ¬ b = i := fun z => e z.symm
      simp [e, this]
theorem and7 (e : Nat) : e &&& 7 = e % 8 := Nat.and_two_pow_sub_one_eq_mod e 3
def xEdge (lab ends : Int32) (t : Nat) (fw bw : Nat → Nat) (x : Int32) (u : (Nat → Nat) × (Nat → Nat)) : Prop :=
  (¬ inR lab 3 ∧ x = -1 ∧ u = (fw, bw)) ∨ (inR lab 3 ∧ ¬ inR ends 64 ∧ x = -2 ∧ u = (fw, bw)) ∨ (∃ l e, l < 3 ∧ e < 64 ∧ lab = nI l ∧ ends = nI e ∧ x = nI (fw (l * 8 + e % 8) / 2 ^ (e / 8) &&& 1) ∧ u = (va_up fw (l * 8 + e % 8) (sb (fw (l * 8 + e % 8)) (e / 8) t), va_up bw (l * 8 + e / 8) (sb (bw (l * 8 + e / 8)) (e % 8) t)))
end
section
/-! PathAlgebra: the building methods -/
def xPush (k : Nat) (mk ss mv ht : Nat) (kd fr tt st en : Nat → Nat) (x : Int32) (u : XA) : Prop := (rf mk ht 0 ≠ 0 ∧ x = rf mk ht 0 ∧ u = (mk, ss, mv, ht, kd, fr, tt, st, en)) ∨ (rf mk ht 0 = 0 ∧ x = nI (ht + 1) ∧ u = (mk + 1, ss + 2, mv + 1, ht + 1, va_up kd mv k, va_up fr mv ss, va_up tt mv (ss + 1), va_up st ht ss, va_up en ht (ss + 1)))
set_option maxHeartbeats 4000000 in
set_option maxRecDepth 100000 in
theorem X_pushMove (l : Launch) (D : va_G) (cI cZ : ClassId) (h : Nat) (r : Nat → Nat) (mk ss mv ht hr nx : Nat) (fw bw kd fr tt st en ln lv cm : Nat → Nat) (k : Nat) (hmk : mk ≤ 14) (hht : ht ≤ 6) (hmv : mv ≤ 4 * mk) :
    ct_i l yX0_pushMove cX0_pushMove 3 .int (rmL 1 23) D (tyL cI cZ) [.ref h, .int (nI k)] (xw cI h r mk ss mv ht hr nx fw bw kd fr tt st en ln lv cm) (XA) (fun x u => xPush k mk ss mv ht kd fr tt st en x u) (fun u => xwA cI h r u hr nx fw bw ln lv cm) := by
  refine ct_i_of (by decide) (Nat.le_of_ble_eq_true rfl) ?_
  intro p e s m args below meth c A Q ls F hK hP hD hS hA hend hl
  have F : CallFix p m c cX0_pushMove 3 s args lw_all RX0 := F
  obtain ⟨hx, hb, hml, hown, hts⟩ := id F
  have hl : lv_has ls 3 [(0, .ref h), (1, .int (nI k))] := hl
  refine lv_aload_n hx hb dX0_pushMove_0 rfl (lv_at hl 0 rfl) ?_
  refine lv_iconst (v := nI 0) hx hb dX0_pushMove_1 (by decide) ?_
  refine cl_i0 (As := [.int (nI 0)]) (rest := []) (C := RX0) F (X_refusal l D cI cZ h r mk ss mv ht hr nx fw bw kd fr tt st en ln lv cm 0 (by omega) (by omega) (by decide)) (lw_V q95 q97 qs1 q20 q98) 1 rfl (by decide +kernel) ⟨Nat.le_of_ble_eq_true rfl, Nat.le_of_ble_eq_true rfl⟩ ⟨rfl, rfl⟩ ⟨Nat.zero_le _, Nat.zero_le _⟩ hK hP hD hS hA 0 0 rfl rfl hl.1 rfl (Nat.le_of_ble_eq_true rfl) dX0_pushMove_2 (fun r1 u H locs hw hP hD hS => ?_)
  have hP : va_P D vwCl (xw cI h r mk ss mv ht hr nx fw bw kd fr tt st en ln lv cm) H := hP
  have hD : va_D A (xw cI h r mk ss mv ht hr nx fw bw kd fr tt st en ln lv cm) := hD
  subst hw
  refine lv_istore_n (lv' := [(2, .int (rf mk ht 0)), (0, .ref h), (1, .int (nI k))]) hx hb dX0_pushMove_5 rfl hl (by decide) rfl (fun ls hl => ?_)
  refine lv_iload_n hx hb dX0_pushMove_6 rfl (lv_at hl 0 rfl) ?_
  refine lv_if_eq (tgt := 12) hx hb dX0_pushMove_7 (by decide) (fun c7 => ?_) (fun c7 => ?_)
  · have hrf := rf_0 c7
    have hr1 := hrf.2.1
    have hr2 := hrf.2.2
    refine lv_aload_n hx hb dX0_pushMove_12 rfl (lv_at hl 1 rfl) ?_
    refine lv_dup hx hb dX0_pushMove_13 rfl ?_
    refine va_get (D := D) (ci := 0) (v := .int (nI mk)) (C := RX0) (T := TX0) (N := 16) hx hb hts in_X0 hown hK hP 0 rfl rfl 2 (by decide) (hts _ q32) (fun _ h9 => h9) rfl dX0_pushMove_14 ?_
    refine lv_iconst (v := nI 1) hx hb dX0_pushMove_17 (by decide) ?_
    refine xr_iadd hx hb dX0_pushMove_18 ?_
    refine va_put (D := D) (ci := 0) (v := .int (nI (mk + 1))) (ty := .int) (C := RX0) (T := TX0) (N := 16) hx hb hts in_X0 tyX0 tyX0_ok nmX0 hown hK hP hD hS 0 rfl rfl 2 (by decide) (hts _ q32) (fun _ h9 => h9) rfl (by decide +kernel) rfl rfl (Nat.le_of_ble_eq_true rfl) dX0_pushMove_19 (fun H locs hP hD hS => ?_)
    have hP : va_P D vwCl (xw cI h r (mk + 1) ss mv ht hr nx fw bw kd fr tt st en ln lv cm) H := hP
    have hD : va_D A (xw cI h r (mk + 1) ss mv ht hr nx fw bw kd fr tt st en ln lv cm) := hD
    refine lv_aload_n hx hb dX0_pushMove_22 rfl (lv_at hl 1 rfl) ?_
    refine lv_iload_n hx hb dX0_pushMove_23 rfl (lv_at hl 2 rfl) ?_
    refine lv_aload_n hx hb dX0_pushMove_24 rfl (lv_at hl 1 rfl) ?_
    refine va_get (D := D) (ci := 0) (v := .int (nI ss)) (C := RX0) (T := TX0) (N := 16) hx hb hts in_X0 hown hK hP 0 rfl rfl 3 (by decide) (hts _ q33) (fun _ h9 => h9) rfl dX0_pushMove_25 ?_
    refine lv_aload_n hx hb dX0_pushMove_28 rfl (lv_at hl 1 rfl) ?_
    refine va_get (D := D) (ci := 0) (v := .int (nI ss)) (C := RX0) (T := TX0) (N := 16) hx hb hts in_X0 hown hK hP 0 rfl rfl 3 (by decide) (hts _ q33) (fun _ h9 => h9) rfl dX0_pushMove_29 ?_
    refine lv_iconst (v := nI 1) hx hb dX0_pushMove_32 (by decide) ?_
    refine xr_iadd hx hb dX0_pushMove_33 ?_
    refine cl_v0 (As := [.int (nI k), .int (nI ss), .int (nI (ss + 1))]) (rest := []) (C := RX0) F (X_addMove l D cI cZ h r (mk + 1) ss mv ht hr nx fw bw kd fr tt st en ln lv cm k ss (ss + 1) (by omega)) (lw_V q99 q101 qs2 q20 q102) 3 rfl (by decide +kernel) ⟨Nat.le_of_ble_eq_true rfl, Nat.le_of_ble_eq_true rfl⟩ ⟨rfl, rfl⟩ ⟨Nat.zero_le _, Nat.zero_le _⟩ hK hP hD hS hA 0 0 rfl rfl hl.1 rfl (Nat.le_of_ble_eq_true rfl) dX0_pushMove_34 (fun u H locs hw hP hD hS => ?_)
    have hP : va_P D vwCl (xw cI h r (mk + 1) ss (mv + 1) ht hr nx fw bw (va_up kd mv k) (va_up fr mv ss) (va_up tt mv (ss + 1)) st en ln lv cm) H := hP
    have hD : va_D A (xw cI h r (mk + 1) ss (mv + 1) ht hr nx fw bw (va_up kd mv k) (va_up fr mv ss) (va_up tt mv (ss + 1)) st en ln lv cm) := hD
    refine lv_aload_n hx hb dX0_pushMove_37 rfl (lv_at hl 1 rfl) ?_
    refine va_get (D := D) (ci := 0) (v := .ref (r 5)) (C := RX0) (T := TX0) (N := 16) hx hb hts in_X0 hown hK hP 0 rfl rfl 9 (by decide) (hts _ q39) (fun _ h9 => h9) rfl dX0_pushMove_38 ?_
    refine lv_aload_n hx hb dX0_pushMove_41 rfl (lv_at hl 1 rfl) ?_
    refine va_get (D := D) (ci := 0) (v := .int (nI ht)) (C := RX0) (T := TX0) (N := 16) hx hb hts in_X0 hown hK hP 0 rfl rfl 8 (by decide) (hts _ q38) (fun _ h9 => h9) rfl dX0_pushMove_42 ?_
    refine lv_aload_n hx hb dX0_pushMove_45 rfl (lv_at hl 1 rfl) ?_
    refine va_get (D := D) (ci := 0) (v := .int (nI ss)) (C := RX0) (T := TX0) (N := 16) hx hb hts in_X0 hown hK hP 0 rfl rfl 3 (by decide) (hts _ q33) (fun _ h9 => h9) rfl dX0_pushMove_46 ?_
    refine xr_iast (f := st) hx hb hK hP hD hS 6 0 rfl rfl (by omega) (by decide) dX0_pushMove_49 (fun H locs hP hD hS => ?_)
    have hP : va_P D vwCl (xw cI h r (mk + 1) ss (mv + 1) ht hr nx fw bw (va_up kd mv k) (va_up fr mv ss) (va_up tt mv (ss + 1)) (va_up st ht ss) en ln lv cm) H := hP
    have hD : va_D A (xw cI h r (mk + 1) ss (mv + 1) ht hr nx fw bw (va_up kd mv k) (va_up fr mv ss) (va_up tt mv (ss + 1)) (va_up st ht ss) en ln lv cm) := hD
    refine lv_aload_n hx hb dX0_pushMove_50 rfl (lv_at hl 1 rfl) ?_
    refine va_get (D := D) (ci := 0) (v := .ref (r 6)) (C := RX0) (T := TX0) (N := 16) hx hb hts in_X0 hown hK hP 0 rfl rfl 10 (by decide) (hts _ q40) (fun _ h9 => h9) rfl dX0_pushMove_51 ?_
    refine lv_aload_n hx hb dX0_pushMove_54 rfl (lv_at hl 1 rfl) ?_
    refine va_get (D := D) (ci := 0) (v := .int (nI ht)) (C := RX0) (T := TX0) (N := 16) hx hb hts in_X0 hown hK hP 0 rfl rfl 8 (by decide) (hts _ q38) (fun _ h9 => h9) rfl dX0_pushMove_55 ?_
    refine lv_aload_n hx hb dX0_pushMove_58 rfl (lv_at hl 1 rfl) ?_
    refine va_get (D := D) (ci := 0) (v := .int (nI ss)) (C := RX0) (T := TX0) (N := 16) hx hb hts in_X0 hown hK hP 0 rfl rfl 3 (by decide) (hts _ q33) (fun _ h9 => h9) rfl dX0_pushMove_59 ?_
    refine lv_iconst (v := nI 1) hx hb dX0_pushMove_62 (by decide) ?_
    refine xr_iadd hx hb dX0_pushMove_63 ?_
    refine xr_iast (f := en) hx hb hK hP hD hS 7 0 rfl rfl (by omega) (by decide) dX0_pushMove_64 (fun H locs hP hD hS => ?_)
    have hP : va_P D vwCl (xw cI h r (mk + 1) ss (mv + 1) ht hr nx fw bw (va_up kd mv k) (va_up fr mv ss) (va_up tt mv (ss + 1)) (va_up st ht ss) (va_up en ht (ss + 1)) ln lv cm) H := hP
    have hD : va_D A (xw cI h r (mk + 1) ss (mv + 1) ht hr nx fw bw (va_up kd mv k) (va_up fr mv ss) (va_up tt mv (ss + 1)) (va_up st ht ss) (va_up en ht (ss + 1)) ln lv cm) := hD
    refine lv_aload_n hx hb dX0_pushMove_65 rfl (lv_at hl 1 rfl) ?_
    refine lv_dup hx hb dX0_pushMove_66 rfl ?_
    refine va_get (D := D) (ci := 0) (v := .int (nI ss)) (C := RX0) (T := TX0) (N := 16) hx hb hts in_X0 hown hK hP 0 rfl rfl 3 (by decide) (hts _ q33) (fun _ h9 => h9) rfl dX0_pushMove_67 ?_
    refine lv_iconst (v := nI 2) hx hb dX0_pushMove_70 (by decide) ?_
    refine xr_iadd hx hb dX0_pushMove_71 ?_
    refine va_put (D := D) (ci := 0) (v := .int (nI (ss + 2))) (ty := .int) (C := RX0) (T := TX0) (N := 16) hx hb hts in_X0 tyX0 tyX0_ok nmX0 hown hK hP hD hS 0 rfl rfl 3 (by decide) (hts _ q33) (fun _ h9 => h9) rfl (by decide +kernel) rfl rfl (Nat.le_of_ble_eq_true rfl) dX0_pushMove_72 (fun H locs hP hD hS => ?_)
    have hP : va_P D vwCl (xw cI h r (mk + 1) (ss + 2) (mv + 1) ht hr nx fw bw (va_up kd mv k) (va_up fr mv ss) (va_up tt mv (ss + 1)) (va_up st ht ss) (va_up en ht (ss + 1)) ln lv cm) H := hP
    have hD : va_D A (xw cI h r (mk + 1) (ss + 2) (mv + 1) ht hr nx fw bw (va_up kd mv k) (va_up fr mv ss) (va_up tt mv (ss + 1)) (va_up st ht ss) (va_up en ht (ss + 1)) ln lv cm) := hD
    refine lv_aload_n hx hb dX0_pushMove_75 rfl (lv_at hl 1 rfl) ?_
    refine lv_dup hx hb dX0_pushMove_76 rfl ?_
    refine va_get (D := D) (ci := 0) (v := .int (nI ht)) (C := RX0) (T := TX0) (N := 16) hx hb hts in_X0 hown hK hP 0 rfl rfl 8 (by decide) (hts _ q38) (fun _ h9 => h9) rfl dX0_pushMove_77 ?_
    refine lv_iconst (v := nI 1) hx hb dX0_pushMove_80 (by decide) ?_
    refine xr_iadd hx hb dX0_pushMove_81 ?_
    refine va_put (D := D) (ci := 0) (v := .int (nI (ht + 1))) (ty := .int) (C := RX0) (T := TX0) (N := 16) hx hb hts in_X0 tyX0 tyX0_ok nmX0 hown hK hP hD hS 0 rfl rfl 8 (by decide) (hts _ q38) (fun _ h9 => h9) rfl (by decide +kernel) rfl rfl (Nat.le_of_ble_eq_true rfl) dX0_pushMove_82 (fun H locs hP hD hS => ?_)
    have hP : va_P D vwCl (xw cI h r (mk + 1) (ss + 2) (mv + 1) (ht + 1) hr nx fw bw (va_up kd mv k) (va_up fr mv ss) (va_up tt mv (ss + 1)) (va_up st ht ss) (va_up en ht (ss + 1)) ln lv cm) H := hP
    have hD : va_D A (xw cI h r (mk + 1) (ss + 2) (mv + 1) (ht + 1) hr nx fw bw (va_up kd mv k) (va_up fr mv ss) (va_up tt mv (ss + 1)) (va_up st ht ss) (va_up en ht (ss + 1)) ln lv cm) := hD
    refine lv_aload_n hx hb dX0_pushMove_85 rfl (lv_at hl 1 rfl) ?_
    refine va_get (D := D) (ci := 0) (v := .int (nI (ht + 1))) (C := RX0) (T := TX0) (N := 16) hx hb hts in_X0 hown hK hP 0 rfl rfl 8 (by decide) (hts _ q38) (fun _ h9 => h9) rfl dX0_pushMove_86 ?_
    exact hend (nI (ht + 1)) (mk + 1, ss + 2, mv + 1, ht + 1, va_up kd mv k, va_up fr mv ss, va_up tt mv (ss + 1), va_up st ht ss, va_up en ht (ss + 1)) _ _ _ _ dX0_pushMove_89 rfl (Or.inr ⟨c7, rfl, rfl⟩) hP hD hS
  · refine lv_iload_n hx hb dX0_pushMove_10 rfl (lv_at hl 0 rfl) ?_
    exact hend (rf mk ht 0) (mk, ss, mv, ht, kd, fr, tt, st, en) _ _ _ _ dX0_pushMove_11 rfl (Or.inl ⟨c7, rfl, rfl⟩) hP hD hS
def xThen (mk ss mv ht : Nat) (kd fr tt st en : Nat → Nat) (x : Int32) (u : XA) : Prop := (rf mk ht 2 ≠ 0 ∧ x = rf mk ht 2 ∧ u = (mk, ss, mv, ht, kd, fr, tt, st, en)) ∨ (rf mk ht 2 = 0 ∧ x = nI (ht - 1) ∧ u = (mk + 1, ss, mv + 1, ht - 1, va_up kd mv 6, va_up fr mv (en ((ht - 1) - 1)), va_up tt mv (st (ht - 1)), st, va_up en ((ht - 1) - 1) (en (ht - 1))))
set_option maxHeartbeats 4000000 in
set_option maxRecDepth 100000 in
theorem X_then (l : Launch) (D : va_G) (cI cZ : ClassId) (h : Nat) (r : Nat → Nat) (mk ss mv ht hr nx : Nat) (fw bw kd fr tt st en ln lv cm : Nat → Nat) (hmk : mk ≤ 14) (hht : ht ≤ 6) (hmv : mv ≤ 4 * mk) :
    ct_i l yX0_then cX0_then 2 .int (rmL 1 23) D (tyL cI cZ) [.ref h] (xw cI h r mk ss mv ht hr nx fw bw kd fr tt st en ln lv cm) (XA) (fun x u => xThen  mk ss mv ht kd fr tt st en x u) (fun u => xwA cI h r u hr nx fw bw ln lv cm) := by
  refine ct_i_of (by decide) (Nat.le_of_ble_eq_true rfl) ?_
  intro p e s m args below meth c A Q ls F hK hP hD hS hA hend hl
  have F : CallFix p m c cX0_then 2 s args lw_all RX0 := F
  obtain ⟨hx, hb, hml, hown, hts⟩ := id F
  have hl : lv_has ls 2 [(0, .ref h)] := hl
  refine lv_aload_n hx hb dX0_then_0 rfl (lv_at hl 0 rfl) ?_
  refine lv_iconst (v := nI 2) hx hb dX0_then_1 (by decide) ?_
  refine cl_i0 (As := [.int (nI 2)]) (rest := []) (C := RX0) F (X_refusal l D cI cZ h r mk ss mv ht hr nx fw bw kd fr tt st en ln lv cm 2 (by omega) (by omega) (by decide)) (lw_V q95 q97 qs1 q20 q98) 1 rfl (by decide +kernel) ⟨Nat.le_of_ble_eq_true rfl, Nat.le_of_ble_eq_true rfl⟩ ⟨rfl, rfl⟩ ⟨Nat.zero_le _, Nat.zero_le _⟩ hK hP hD hS hA 0 0 rfl rfl hl.1 rfl (Nat.le_of_ble_eq_true rfl) dX0_then_2 (fun r1 u H locs hw hP hD hS => ?_)
  have hP : va_P D vwCl (xw cI h r mk ss mv ht hr nx fw bw kd fr tt st en ln lv cm) H := hP
  have hD : va_D A (xw cI h r mk ss mv ht hr nx fw bw kd fr tt st en ln lv cm) := hD
  subst hw
  refine lv_istore_n (lv' := [(1, .int (rf mk ht 2)), (0, .ref h)]) hx hb dX0_then_5 rfl hl (by decide) rfl (fun ls hl => ?_)
  refine lv_iload_n hx hb dX0_then_6 rfl (lv_at hl 0 rfl) ?_
  refine lv_if_eq (tgt := 12) hx hb dX0_then_7 (by decide) (fun c7 => ?_) (fun c7 => ?_)
  · have hrf := rf_0 c7
    have hr1 := hrf.2.1
    have hr2 := hrf.2.2
    refine lv_aload_n hx hb dX0_then_12 rfl (lv_at hl 1 rfl) ?_
    refine lv_dup hx hb dX0_then_13 rfl ?_
    refine va_get (D := D) (ci := 0) (v := .int (nI mk)) (C := RX0) (T := TX0) (N := 16) hx hb hts in_X0 hown hK hP 0 rfl rfl 2 (by decide) (hts _ q32) (fun _ h9 => h9) rfl dX0_then_14 ?_
    refine lv_iconst (v := nI 1) hx hb dX0_then_17 (by decide) ?_
    refine xr_iadd hx hb dX0_then_18 ?_
    refine va_put (D := D) (ci := 0) (v := .int (nI (mk + 1))) (ty := .int) (C := RX0) (T := TX0) (N := 16) hx hb hts in_X0 tyX0 tyX0_ok nmX0 hown hK hP hD hS 0 rfl rfl 2 (by decide) (hts _ q32) (fun _ h9 => h9) rfl (by decide +kernel) rfl rfl (Nat.le_of_ble_eq_true rfl) dX0_then_19 (fun H locs hP hD hS => ?_)
    have hP : va_P D vwCl (xw cI h r (mk + 1) ss mv ht hr nx fw bw kd fr tt st en ln lv cm) H := hP
    have hD : va_D A (xw cI h r (mk + 1) ss mv ht hr nx fw bw kd fr tt st en ln lv cm) := hD
    refine lv_aload_n hx hb dX0_then_22 rfl (lv_at hl 1 rfl) ?_
    refine lv_dup hx hb dX0_then_23 rfl ?_
    refine va_get (D := D) (ci := 0) (v := .int (nI ht)) (C := RX0) (T := TX0) (N := 16) hx hb hts in_X0 hown hK hP 0 rfl rfl 8 (by decide) (hts _ q38) (fun _ h9 => h9) rfl dX0_then_24 ?_
    refine lv_iconst (v := nI 1) hx hb dX0_then_27 (by decide) ?_
    refine xr_isub hx hb dX0_then_28 (by omega) ?_
    refine va_put (D := D) (ci := 0) (v := .int (nI (ht - 1))) (ty := .int) (C := RX0) (T := TX0) (N := 16) hx hb hts in_X0 tyX0 tyX0_ok nmX0 hown hK hP hD hS 0 rfl rfl 8 (by decide) (hts _ q38) (fun _ h9 => h9) rfl (by decide +kernel) rfl rfl (Nat.le_of_ble_eq_true rfl) dX0_then_29 (fun H locs hP hD hS => ?_)
    have hP : va_P D vwCl (xw cI h r (mk + 1) ss mv (ht - 1) hr nx fw bw kd fr tt st en ln lv cm) H := hP
    have hD : va_D A (xw cI h r (mk + 1) ss mv (ht - 1) hr nx fw bw kd fr tt st en ln lv cm) := hD
    refine lv_aload_n hx hb dX0_then_32 rfl (lv_at hl 1 rfl) ?_
    refine lv_bipush (v := nI 6) hx hb dX0_then_33 (by decide) ?_
    refine lv_aload_n hx hb dX0_then_35 rfl (lv_at hl 1 rfl) ?_
    refine va_get (D := D) (ci := 0) (v := .ref (r 6)) (C := RX0) (T := TX0) (N := 16) hx hb hts in_X0 hown hK hP 0 rfl rfl 10 (by decide) (hts _ q40) (fun _ h9 => h9) rfl dX0_then_36 ?_
    refine lv_aload_n hx hb dX0_then_39 rfl (lv_at hl 1 rfl) ?_
    refine va_get (D := D) (ci := 0) (v := .int (nI (ht - 1))) (C := RX0) (T := TX0) (N := 16) hx hb hts in_X0 hown hK hP 0 rfl rfl 8 (by decide) (hts _ q38) (fun _ h9 => h9) rfl dX0_then_40 ?_
    refine lv_iconst (v := nI 1) hx hb dX0_then_43 (by decide) ?_
    refine xr_isub hx hb dX0_then_44 (by omega) ?_
    refine xr_iald (f := en) hx hb hK hP 7 0 rfl rfl (by omega) (by decide) dX0_then_45 ?_
    refine lv_aload_n hx hb dX0_then_46 rfl (lv_at hl 1 rfl) ?_
    refine va_get (D := D) (ci := 0) (v := .ref (r 5)) (C := RX0) (T := TX0) (N := 16) hx hb hts in_X0 hown hK hP 0 rfl rfl 9 (by decide) (hts _ q39) (fun _ h9 => h9) rfl dX0_then_47 ?_
    refine lv_aload_n hx hb dX0_then_50 rfl (lv_at hl 1 rfl) ?_
    refine va_get (D := D) (ci := 0) (v := .int (nI (ht - 1))) (C := RX0) (T := TX0) (N := 16) hx hb hts in_X0 hown hK hP 0 rfl rfl 8 (by decide) (hts _ q38) (fun _ h9 => h9) rfl dX0_then_51 ?_
    refine xr_iald (f := st) hx hb hK hP 6 0 rfl rfl (by omega) (by decide) dX0_then_54 ?_
    refine cl_v0 (As := [.int (nI 6), .int (nI (en ((ht - 1) - 1))), .int (nI (st (ht - 1)))]) (rest := []) (C := RX0) F (X_addMove l D cI cZ h r (mk + 1) ss mv (ht - 1) hr nx fw bw kd fr tt st en ln lv cm 6 (en ((ht - 1) - 1)) (st (ht - 1)) (by omega)) (lw_V q99 q101 qs2 q20 q102) 3 rfl (by decide +kernel) ⟨Nat.le_of_ble_eq_true rfl, Nat.le_of_ble_eq_true rfl⟩ ⟨rfl, rfl⟩ ⟨Nat.zero_le _, Nat.zero_le _⟩ hK hP hD hS hA 0 0 rfl rfl hl.1 rfl (Nat.le_of_ble_eq_true rfl) dX0_then_55 (fun u H locs hw hP hD hS => ?_)
    have hP : va_P D vwCl (xw cI h r (mk + 1) ss (mv + 1) (ht - 1) hr nx fw bw (va_up kd mv 6) (va_up fr mv (en ((ht - 1) - 1))) (va_up tt mv (st (ht - 1))) st en ln lv cm) H := hP
    have hD : va_D A (xw cI h r (mk + 1) ss (mv + 1) (ht - 1) hr nx fw bw (va_up kd mv 6) (va_up fr mv (en ((ht - 1) - 1))) (va_up tt mv (st (ht - 1))) st en ln lv cm) := hD
    refine lv_aload_n hx hb dX0_then_58 rfl (lv_at hl 1 rfl) ?_
    refine va_get (D := D) (ci := 0) (v := .ref (r 6)) (C := RX0) (T := TX0) (N := 16) hx hb hts in_X0 hown hK hP 0 rfl rfl 10 (by decide) (hts _ q40) (fun _ h9 => h9) rfl dX0_then_59 ?_
    refine lv_aload_n hx hb dX0_then_62 rfl (lv_at hl 1 rfl) ?_
    refine va_get (D := D) (ci := 0) (v := .int (nI (ht - 1))) (C := RX0) (T := TX0) (N := 16) hx hb hts in_X0 hown hK hP 0 rfl rfl 8 (by decide) (hts _ q38) (fun _ h9 => h9) rfl dX0_then_63 ?_
    refine lv_iconst (v := nI 1) hx hb dX0_then_66 (by decide) ?_
    refine xr_isub hx hb dX0_then_67 (by omega) ?_
    refine lv_aload_n hx hb dX0_then_68 rfl (lv_at hl 1 rfl) ?_
    refine va_get (D := D) (ci := 0) (v := .ref (r 6)) (C := RX0) (T := TX0) (N := 16) hx hb hts in_X0 hown hK hP 0 rfl rfl 10 (by decide) (hts _ q40) (fun _ h9 => h9) rfl dX0_then_69 ?_
    refine lv_aload_n hx hb dX0_then_72 rfl (lv_at hl 1 rfl) ?_
    refine va_get (D := D) (ci := 0) (v := .int (nI (ht - 1))) (C := RX0) (T := TX0) (N := 16) hx hb hts in_X0 hown hK hP 0 rfl rfl 8 (by decide) (hts _ q38) (fun _ h9 => h9) rfl dX0_then_73 ?_
    refine xr_iald (f := en) hx hb hK hP 7 0 rfl rfl (by omega) (by decide) dX0_then_76 ?_
    refine xr_iast (f := en) hx hb hK hP hD hS 7 0 rfl rfl (by omega) (by decide) dX0_then_77 (fun H locs hP hD hS => ?_)
    have hP : va_P D vwCl (xw cI h r (mk + 1) ss (mv + 1) (ht - 1) hr nx fw bw (va_up kd mv 6) (va_up fr mv (en ((ht - 1) - 1))) (va_up tt mv (st (ht - 1))) st (va_up en ((ht - 1) - 1) (en (ht - 1))) ln lv cm) H := hP
    have hD : va_D A (xw cI h r (mk + 1) ss (mv + 1) (ht - 1) hr nx fw bw (va_up kd mv 6) (va_up fr mv (en ((ht - 1) - 1))) (va_up tt mv (st (ht - 1))) st (va_up en ((ht - 1) - 1) (en (ht - 1))) ln lv cm) := hD
    refine lv_aload_n hx hb dX0_then_78 rfl (lv_at hl 1 rfl) ?_
    refine va_get (D := D) (ci := 0) (v := .int (nI (ht - 1))) (C := RX0) (T := TX0) (N := 16) hx hb hts in_X0 hown hK hP 0 rfl rfl 8 (by decide) (hts _ q38) (fun _ h9 => h9) rfl dX0_then_79 ?_
    exact hend (nI (ht - 1)) (mk + 1, ss, mv + 1, ht - 1, va_up kd mv 6, va_up fr mv (en ((ht - 1) - 1)), va_up tt mv (st (ht - 1)), st, va_up en ((ht - 1) - 1) (en (ht - 1))) _ _ _ _ dX0_then_82 rfl (Or.inr ⟨c7, rfl, rfl⟩) hP hD hS
  · refine lv_iload_n hx hb dX0_then_10 rfl (lv_at hl 0 rfl) ?_
    exact hend (rf mk ht 2) (mk, ss, mv, ht, kd, fr, tt, st, en) _ _ _ _ dX0_then_11 rfl (Or.inl ⟨c7, rfl, rfl⟩) hP hD hS
def xOr (mk ss mv ht : Nat) (kd fr tt st en : Nat → Nat) (x : Int32) (u : XA) : Prop := (rf mk ht 2 ≠ 0 ∧ x = rf mk ht 2 ∧ u = (mk, ss, mv, ht, kd, fr, tt, st, en)) ∨ (rf mk ht 2 = 0 ∧ x = nI (ht - 1) ∧ u = (mk + 1, ss + 2, (((mv + 1) + 1) + 1) + 1, ht - 1, va_up (va_up (va_up (va_up kd mv 6) (mv + 1) 6) ((mv + 1) + 1) 6) (((mv + 1) + 1) + 1) 6, va_up (va_up (va_up (va_up fr mv ss) (mv + 1) ss) ((mv + 1) + 1) (en ((ht - 1) - 1))) (((mv + 1) + 1) + 1) (en (ht - 1)), va_up (va_up (va_up (va_up tt mv (st ((ht - 1) - 1))) (mv + 1) (st (ht - 1))) ((mv + 1) + 1) (ss + 1)) (((mv + 1) + 1) + 1) (ss + 1), va_up st ((ht - 1) - 1) ss, va_up en ((ht - 1) - 1) (ss + 1)))
set_option maxHeartbeats 4000000 in
set_option maxRecDepth 100000 in
theorem X_or (l : Launch) (D : va_G) (cI cZ : ClassId) (h : Nat) (r : Nat → Nat) (mk ss mv ht hr nx : Nat) (fw bw kd fr tt st en ln lv cm : Nat → Nat) (hmk : mk ≤ 14) (hht : ht ≤ 6) (hmv : mv ≤ 4 * mk) :
    ct_i l yX0_or cX0_or 2 .int (rmL 1 23) D (tyL cI cZ) [.ref h] (xw cI h r mk ss mv ht hr nx fw bw kd fr tt st en ln lv cm) (XA) (fun x u => xOr  mk ss mv ht kd fr tt st en x u) (fun u => xwA cI h r u hr nx fw bw ln lv cm) := by
  refine ct_i_of (by decide) (Nat.le_of_ble_eq_true rfl) ?_
  intro p e s m args below meth c A Q ls F hK hP hD hS hA hend hl
  have F : CallFix p m c cX0_or 2 s args lw_all RX0 := F
  obtain ⟨hx, hb, hml, hown, hts⟩ := id F
  have hl : lv_has ls 2 [(0, .ref h)] := hl
  refine lv_aload_n hx hb dX0_or_0 rfl (lv_at hl 0 rfl) ?_
  refine lv_iconst (v := nI 2) hx hb dX0_or_1 (by decide) ?_
  refine cl_i0 (As := [.int (nI 2)]) (rest := []) (C := RX0) F (X_refusal l D cI cZ h r mk ss mv ht hr nx fw bw kd fr tt st en ln lv cm 2 (by omega) (by omega) (by decide)) (lw_V q95 q97 qs1 q20 q98) 1 rfl (by decide +kernel) ⟨Nat.le_of_ble_eq_true rfl, Nat.le_of_ble_eq_true rfl⟩ ⟨rfl, rfl⟩ ⟨Nat.zero_le _, Nat.zero_le _⟩ hK hP hD hS hA 0 0 rfl rfl hl.1 rfl (Nat.le_of_ble_eq_true rfl) dX0_or_2 (fun r1 u H locs hw hP hD hS => ?_)
  have hP : va_P D vwCl (xw cI h r mk ss mv ht hr nx fw bw kd fr tt st en ln lv cm) H := hP
  have hD : va_D A (xw cI h r mk ss mv ht hr nx fw bw kd fr tt st en ln lv cm) := hD
  subst hw
  refine lv_istore_n (lv' := [(1, .int (rf mk ht 2)), (0, .ref h)]) hx hb dX0_or_5 rfl hl (by decide) rfl (fun ls hl => ?_)
  refine lv_iload_n hx hb dX0_or_6 rfl (lv_at hl 0 rfl) ?_
  refine lv_if_eq (tgt := 12) hx hb dX0_or_7 (by decide) (fun c7 => ?_) (fun c7 => ?_)
  · have hrf := rf_0 c7
    have hr1 := hrf.2.1
    have hr2 := hrf.2.2
    refine lv_aload_n hx hb dX0_or_12 rfl (lv_at hl 1 rfl) ?_
    refine lv_dup hx hb dX0_or_13 rfl ?_
    refine va_get (D := D) (ci := 0) (v := .int (nI mk)) (C := RX0) (T := TX0) (N := 16) hx hb hts in_X0 hown hK hP 0 rfl rfl 2 (by decide) (hts _ q32) (fun _ h9 => h9) rfl dX0_or_14 ?_
    refine lv_iconst (v := nI 1) hx hb dX0_or_17 (by decide) ?_
    refine xr_iadd hx hb dX0_or_18 ?_
    refine va_put (D := D) (ci := 0) (v := .int (nI (mk + 1))) (ty := .int) (C := RX0) (T := TX0) (N := 16) hx hb hts in_X0 tyX0 tyX0_ok nmX0 hown hK hP hD hS 0 rfl rfl 2 (by decide) (hts _ q32) (fun _ h9 => h9) rfl (by decide +kernel) rfl rfl (Nat.le_of_ble_eq_true rfl) dX0_or_19 (fun H locs hP hD hS => ?_)
    have hP : va_P D vwCl (xw cI h r (mk + 1) ss mv ht hr nx fw bw kd fr tt st en ln lv cm) H := hP
    have hD : va_D A (xw cI h r (mk + 1) ss mv ht hr nx fw bw kd fr tt st en ln lv cm) := hD
    refine lv_aload_n hx hb dX0_or_22 rfl (lv_at hl 1 rfl) ?_
    refine lv_dup hx hb dX0_or_23 rfl ?_
    refine va_get (D := D) (ci := 0) (v := .int (nI ht)) (C := RX0) (T := TX0) (N := 16) hx hb hts in_X0 hown hK hP 0 rfl rfl 8 (by decide) (hts _ q38) (fun _ h9 => h9) rfl dX0_or_24 ?_
    refine lv_iconst (v := nI 1) hx hb dX0_or_27 (by decide) ?_
    refine xr_isub hx hb dX0_or_28 (by omega) ?_
    refine va_put (D := D) (ci := 0) (v := .int (nI (ht - 1))) (ty := .int) (C := RX0) (T := TX0) (N := 16) hx hb hts in_X0 tyX0 tyX0_ok nmX0 hown hK hP hD hS 0 rfl rfl 8 (by decide) (hts _ q38) (fun _ h9 => h9) rfl (by decide +kernel) rfl rfl (Nat.le_of_ble_eq_true rfl) dX0_or_29 (fun H locs hP hD hS => ?_)
    have hP : va_P D vwCl (xw cI h r (mk + 1) ss mv (ht - 1) hr nx fw bw kd fr tt st en ln lv cm) H := hP
    have hD : va_D A (xw cI h r (mk + 1) ss mv (ht - 1) hr nx fw bw kd fr tt st en ln lv cm) := hD
    refine lv_aload_n hx hb dX0_or_32 rfl (lv_at hl 1 rfl) ?_
    refine lv_bipush (v := nI 6) hx hb dX0_or_33 (by decide) ?_
    refine lv_aload_n hx hb dX0_or_35 rfl (lv_at hl 1 rfl) ?_
    refine va_get (D := D) (ci := 0) (v := .int (nI ss)) (C := RX0) (T := TX0) (N := 16) hx hb hts in_X0 hown hK hP 0 rfl rfl 3 (by decide) (hts _ q33) (fun _ h9 => h9) rfl dX0_or_36 ?_
    refine lv_aload_n hx hb dX0_or_39 rfl (lv_at hl 1 rfl) ?_
    refine va_get (D := D) (ci := 0) (v := .ref (r 5)) (C := RX0) (T := TX0) (N := 16) hx hb hts in_X0 hown hK hP 0 rfl rfl 9 (by decide) (hts _ q39) (fun _ h9 => h9) rfl dX0_or_40 ?_
    refine lv_aload_n hx hb dX0_or_43 rfl (lv_at hl 1 rfl) ?_
    refine va_get (D := D) (ci := 0) (v := .int (nI (ht - 1))) (C := RX0) (T := TX0) (N := 16) hx hb hts in_X0 hown hK hP 0 rfl rfl 8 (by decide) (hts _ q38) (fun _ h9 => h9) rfl dX0_or_44 ?_
    refine lv_iconst (v := nI 1) hx hb dX0_or_47 (by decide) ?_
    refine xr_isub hx hb dX0_or_48 (by omega) ?_
    refine xr_iald (f := st) hx hb hK hP 6 0 rfl rfl (by omega) (by decide) dX0_or_49 ?_
    refine cl_v0 (As := [.int (nI 6), .int (nI ss), .int (nI (st ((ht - 1) - 1)))]) (rest := []) (C := RX0) F (X_addMove l D cI cZ h r (mk + 1) ss mv (ht - 1) hr nx fw bw kd fr tt st en ln lv cm 6 ss (st ((ht - 1) - 1)) (by omega)) (lw_V q99 q101 qs2 q20 q102) 3 rfl (by decide +kernel) ⟨Nat.le_of_ble_eq_true rfl, Nat.le_of_ble_eq_true rfl⟩ ⟨rfl, rfl⟩ ⟨Nat.zero_le _, Nat.zero_le _⟩ hK hP hD hS hA 0 0 rfl rfl hl.1 rfl (Nat.le_of_ble_eq_true rfl) dX0_or_50 (fun u H locs hw hP hD hS => ?_)
    have hP : va_P D vwCl (xw cI h r (mk + 1) ss (mv + 1) (ht - 1) hr nx fw bw (va_up kd mv 6) (va_up fr mv ss) (va_up tt mv (st ((ht - 1) - 1))) st en ln lv cm) H := hP
    have hD : va_D A (xw cI h r (mk + 1) ss (mv + 1) (ht - 1) hr nx fw bw (va_up kd mv 6) (va_up fr mv ss) (va_up tt mv (st ((ht - 1) - 1))) st en ln lv cm) := hD
    refine lv_aload_n hx hb dX0_or_53 rfl (lv_at hl 1 rfl) ?_
    refine lv_bipush (v := nI 6) hx hb dX0_or_54 (by decide) ?_
    refine lv_aload_n hx hb dX0_or_56 rfl (lv_at hl 1 rfl) ?_
    refine va_get (D := D) (ci := 0) (v := .int (nI ss)) (C := RX0) (T := TX0) (N := 16) hx hb hts in_X0 hown hK hP 0 rfl rfl 3 (by decide) (hts _ q33) (fun _ h9 => h9) rfl dX0_or_57 ?_
    refine lv_aload_n hx hb dX0_or_60 rfl (lv_at hl 1 rfl) ?_
    refine va_get (D := D) (ci := 0) (v := .ref (r 5)) (C := RX0) (T := TX0) (N := 16) hx hb hts in_X0 hown hK hP 0 rfl rfl 9 (by decide) (hts _ q39) (fun _ h9 => h9) rfl dX0_or_61 ?_
    refine lv_aload_n hx hb dX0_or_64 rfl (lv_at hl 1 rfl) ?_
    refine va_get (D := D) (ci := 0) (v := .int (nI (ht - 1))) (C := RX0) (T := TX0) (N := 16) hx hb hts in_X0 hown hK hP 0 rfl rfl 8 (by decide) (hts _ q38) (fun _ h9 => h9) rfl dX0_or_65 ?_
    refine xr_iald (f := st) hx hb hK hP 6 0 rfl rfl (by omega) (by decide) dX0_or_68 ?_
    refine cl_v0 (As := [.int (nI 6), .int (nI ss), .int (nI (st (ht - 1)))]) (rest := []) (C := RX0) F (X_addMove l D cI cZ h r (mk + 1) ss (mv + 1) (ht - 1) hr nx fw bw (va_up kd mv 6) (va_up fr mv ss) (va_up tt mv (st ((ht - 1) - 1))) st en ln lv cm 6 ss (st (ht - 1)) (by omega)) (lw_V q99 q101 qs2 q20 q102) 3 rfl (by decide +kernel) ⟨Nat.le_of_ble_eq_true rfl, Nat.le_of_ble_eq_true rfl⟩ ⟨rfl, rfl⟩ ⟨Nat.zero_le _, Nat.zero_le _⟩ hK hP hD hS hA 0 0 rfl rfl hl.1 rfl (Nat.le_of_ble_eq_true rfl) dX0_or_69 (fun u H locs hw hP hD hS => ?_)
    have hP : va_P D vwCl (xw cI h r (mk + 1) ss ((mv + 1) + 1) (ht - 1) hr nx fw bw (va_up (va_up kd mv 6) (mv + 1) 6) (va_up (va_up fr mv ss) (mv + 1) ss) (va_up (va_up tt mv (st ((ht - 1) - 1))) (mv + 1) (st (ht - 1))) st en ln lv cm) H := hP
    have hD : va_D A (xw cI h r (mk + 1) ss ((mv + 1) + 1) (ht - 1) hr nx fw bw (va_up (va_up kd mv 6) (mv + 1) 6) (va_up (va_up fr mv ss) (mv + 1) ss) (va_up (va_up tt mv (st ((ht - 1) - 1))) (mv + 1) (st (ht - 1))) st en ln lv cm) := hD
    refine lv_aload_n hx hb dX0_or_72 rfl (lv_at hl 1 rfl) ?_
    refine lv_bipush (v := nI 6) hx hb dX0_or_73 (by decide) ?_
    refine lv_aload_n hx hb dX0_or_75 rfl (lv_at hl 1 rfl) ?_
    refine va_get (D := D) (ci := 0) (v := .ref (r 6)) (C := RX0) (T := TX0) (N := 16) hx hb hts in_X0 hown hK hP 0 rfl rfl 10 (by decide) (hts _ q40) (fun _ h9 => h9) rfl dX0_or_76 ?_
    refine lv_aload_n hx hb dX0_or_79 rfl (lv_at hl 1 rfl) ?_
    refine va_get (D := D) (ci := 0) (v := .int (nI (ht - 1))) (C := RX0) (T := TX0) (N := 16) hx hb hts in_X0 hown hK hP 0 rfl rfl 8 (by decide) (hts _ q38) (fun _ h9 => h9) rfl dX0_or_80 ?_
    refine lv_iconst (v := nI 1) hx hb dX0_or_83 (by decide) ?_
    refine xr_isub hx hb dX0_or_84 (by omega) ?_
    refine xr_iald (f := en) hx hb hK hP 7 0 rfl rfl (by omega) (by decide) dX0_or_85 ?_
    refine lv_aload_n hx hb dX0_or_86 rfl (lv_at hl 1 rfl) ?_
    refine va_get (D := D) (ci := 0) (v := .int (nI ss)) (C := RX0) (T := TX0) (N := 16) hx hb hts in_X0 hown hK hP 0 rfl rfl 3 (by decide) (hts _ q33) (fun _ h9 => h9) rfl dX0_or_87 ?_
    refine lv_iconst (v := nI 1) hx hb dX0_or_90 (by decide) ?_
    refine xr_iadd hx hb dX0_or_91 ?_
    refine cl_v0 (As := [.int (nI 6), .int (nI (en ((ht - 1) - 1))), .int (nI (ss + 1))]) (rest := []) (C := RX0) F (X_addMove l D cI cZ h r (mk + 1) ss ((mv + 1) + 1) (ht - 1) hr nx fw bw (va_up (va_up kd mv 6) (mv + 1) 6) (va_up (va_up fr mv ss) (mv + 1) ss) (va_up (va_up tt mv (st ((ht - 1) - 1))) (mv + 1) (st (ht - 1))) st en ln lv cm 6 (en ((ht - 1) - 1)) (ss + 1) (by omega)) (lw_V q99 q101 qs2 q20 q102) 3 rfl (by decide +kernel) ⟨Nat.le_of_ble_eq_true rfl, Nat.le_of_ble_eq_true rfl⟩ ⟨rfl, rfl⟩ ⟨Nat.zero_le _, Nat.zero_le _⟩ hK hP hD hS hA 0 0 rfl rfl hl.1 rfl (Nat.le_of_ble_eq_true rfl) dX0_or_92 (fun u H locs hw hP hD hS => ?_)
    have hP : va_P D vwCl (xw cI h r (mk + 1) ss (((mv + 1) + 1) + 1) (ht - 1) hr nx fw bw (va_up (va_up (va_up kd mv 6) (mv + 1) 6) ((mv + 1) + 1) 6) (va_up (va_up (va_up fr mv ss) (mv + 1) ss) ((mv + 1) + 1) (en ((ht - 1) - 1))) (va_up (va_up (va_up tt mv (st ((ht - 1) - 1))) (mv + 1) (st (ht - 1))) ((mv + 1) + 1) (ss + 1)) st en ln lv cm) H := hP
    have hD : va_D A (xw cI h r (mk + 1) ss (((mv + 1) + 1) + 1) (ht - 1) hr nx fw bw (va_up (va_up (va_up kd mv 6) (mv + 1) 6) ((mv + 1) + 1) 6) (va_up (va_up (va_up fr mv ss) (mv + 1) ss) ((mv + 1) + 1) (en ((ht - 1) - 1))) (va_up (va_up (va_up tt mv (st ((ht - 1) - 1))) (mv + 1) (st (ht - 1))) ((mv + 1) + 1) (ss + 1)) st en ln lv cm) := hD
    refine lv_aload_n hx hb dX0_or_95 rfl (lv_at hl 1 rfl) ?_
    refine lv_bipush (v := nI 6) hx hb dX0_or_96 (by decide) ?_
    refine lv_aload_n hx hb dX0_or_98 rfl (lv_at hl 1 rfl) ?_
    refine va_get (D := D) (ci := 0) (v := .ref (r 6)) (C := RX0) (T := TX0) (N := 16) hx hb hts in_X0 hown hK hP 0 rfl rfl 10 (by decide) (hts _ q40) (fun _ h9 => h9) rfl dX0_or_99 ?_
    refine lv_aload_n hx hb dX0_or_102 rfl (lv_at hl 1 rfl) ?_
    refine va_get (D := D) (ci := 0) (v := .int (nI (ht - 1))) (C := RX0) (T := TX0) (N := 16) hx hb hts in_X0 hown hK hP 0 rfl rfl 8 (by decide) (hts _ q38) (fun _ h9 => h9) rfl dX0_or_103 ?_
    refine xr_iald (f := en) hx hb hK hP 7 0 rfl rfl (by omega) (by decide) dX0_or_106 ?_
    refine lv_aload_n hx hb dX0_or_107 rfl (lv_at hl 1 rfl) ?_
    refine va_get (D := D) (ci := 0) (v := .int (nI ss)) (C := RX0) (T := TX0) (N := 16) hx hb hts in_X0 hown hK hP 0 rfl rfl 3 (by decide) (hts _ q33) (fun _ h9 => h9) rfl dX0_or_108 ?_
    refine lv_iconst (v := nI 1) hx hb dX0_or_111 (by decide) ?_
    refine xr_iadd hx hb dX0_or_112 ?_
    refine cl_v0 (As := [.int (nI 6), .int (nI (en (ht - 1))), .int (nI (ss + 1))]) (rest := []) (C := RX0) F (X_addMove l D cI cZ h r (mk + 1) ss (((mv + 1) + 1) + 1) (ht - 1) hr nx fw bw (va_up (va_up (va_up kd mv 6) (mv + 1) 6) ((mv + 1) + 1) 6) (va_up (va_up (va_up fr mv ss) (mv + 1) ss) ((mv + 1) + 1) (en ((ht - 1) - 1))) (va_up (va_up (va_up tt mv (st ((ht - 1) - 1))) (mv + 1) (st (ht - 1))) ((mv + 1) + 1) (ss + 1)) st en ln lv cm 6 (en (ht - 1)) (ss + 1) (by omega)) (lw_V q99 q101 qs2 q20 q102) 3 rfl (by decide +kernel) ⟨Nat.le_of_ble_eq_true rfl, Nat.le_of_ble_eq_true rfl⟩ ⟨rfl, rfl⟩ ⟨Nat.zero_le _, Nat.zero_le _⟩ hK hP hD hS hA 0 0 rfl rfl hl.1 rfl (Nat.le_of_ble_eq_true rfl) dX0_or_113 (fun u H locs hw hP hD hS => ?_)
    have hP : va_P D vwCl (xw cI h r (mk + 1) ss ((((mv + 1) + 1) + 1) + 1) (ht - 1) hr nx fw bw (va_up (va_up (va_up (va_up kd mv 6) (mv + 1) 6) ((mv + 1) + 1) 6) (((mv + 1) + 1) + 1) 6) (va_up (va_up (va_up (va_up fr mv ss) (mv + 1) ss) ((mv + 1) + 1) (en ((ht - 1) - 1))) (((mv + 1) + 1) + 1) (en (ht - 1))) (va_up (va_up (va_up (va_up tt mv (st ((ht - 1) - 1))) (mv + 1) (st (ht - 1))) ((mv + 1) + 1) (ss + 1)) (((mv + 1) + 1) + 1) (ss + 1)) st en ln lv cm) H := hP
    have hD : va_D A (xw cI h r (mk + 1) ss ((((mv + 1) + 1) + 1) + 1) (ht - 1) hr nx fw bw (va_up (va_up (va_up (va_up kd mv 6) (mv + 1) 6) ((mv + 1) + 1) 6) (((mv + 1) + 1) + 1) 6) (va_up (va_up (va_up (va_up fr mv ss) (mv + 1) ss) ((mv + 1) + 1) (en ((ht - 1) - 1))) (((mv + 1) + 1) + 1) (en (ht - 1))) (va_up (va_up (va_up (va_up tt mv (st ((ht - 1) - 1))) (mv + 1) (st (ht - 1))) ((mv + 1) + 1) (ss + 1)) (((mv + 1) + 1) + 1) (ss + 1)) st en ln lv cm) := hD
    refine lv_aload_n hx hb dX0_or_116 rfl (lv_at hl 1 rfl) ?_
    refine va_get (D := D) (ci := 0) (v := .ref (r 5)) (C := RX0) (T := TX0) (N := 16) hx hb hts in_X0 hown hK hP 0 rfl rfl 9 (by decide) (hts _ q39) (fun _ h9 => h9) rfl dX0_or_117 ?_
    refine lv_aload_n hx hb dX0_or_120 rfl (lv_at hl 1 rfl) ?_
    refine va_get (D := D) (ci := 0) (v := .int (nI (ht - 1))) (C := RX0) (T := TX0) (N := 16) hx hb hts in_X0 hown hK hP 0 rfl rfl 8 (by decide) (hts _ q38) (fun _ h9 => h9) rfl dX0_or_121 ?_
    refine lv_iconst (v := nI 1) hx hb dX0_or_124 (by decide) ?_
    refine xr_isub hx hb dX0_or_125 (by omega) ?_
    refine lv_aload_n hx hb dX0_or_126 rfl (lv_at hl 1 rfl) ?_
    refine va_get (D := D) (ci := 0) (v := .int (nI ss)) (C := RX0) (T := TX0) (N := 16) hx hb hts in_X0 hown hK hP 0 rfl rfl 3 (by decide) (hts _ q33) (fun _ h9 => h9) rfl dX0_or_127 ?_
    refine xr_iast (f := st) hx hb hK hP hD hS 6 0 rfl rfl (by omega) (by decide) dX0_or_130 (fun H locs hP hD hS => ?_)
    have hP : va_P D vwCl (xw cI h r (mk + 1) ss ((((mv + 1) + 1) + 1) + 1) (ht - 1) hr nx fw bw (va_up (va_up (va_up (va_up kd mv 6) (mv + 1) 6) ((mv + 1) + 1) 6) (((mv + 1) + 1) + 1) 6) (va_up (va_up (va_up (va_up fr mv ss) (mv + 1) ss) ((mv + 1) + 1) (en ((ht - 1) - 1))) (((mv + 1) + 1) + 1) (en (ht - 1))) (va_up (va_up (va_up (va_up tt mv (st ((ht - 1) - 1))) (mv + 1) (st (ht - 1))) ((mv + 1) + 1) (ss + 1)) (((mv + 1) + 1) + 1) (ss + 1)) (va_up st ((ht - 1) - 1) ss) en ln lv cm) H := hP
    have hD : va_D A (xw cI h r (mk + 1) ss ((((mv + 1) + 1) + 1) + 1) (ht - 1) hr nx fw bw (va_up (va_up (va_up (va_up kd mv 6) (mv + 1) 6) ((mv + 1) + 1) 6) (((mv + 1) + 1) + 1) 6) (va_up (va_up (va_up (va_up fr mv ss) (mv + 1) ss) ((mv + 1) + 1) (en ((ht - 1) - 1))) (((mv + 1) + 1) + 1) (en (ht - 1))) (va_up (va_up (va_up (va_up tt mv (st ((ht - 1) - 1))) (mv + 1) (st (ht - 1))) ((mv + 1) + 1) (ss + 1)) (((mv + 1) + 1) + 1) (ss + 1)) (va_up st ((ht - 1) - 1) ss) en ln lv cm) := hD
    refine lv_aload_n hx hb dX0_or_131 rfl (lv_at hl 1 rfl) ?_
    refine va_get (D := D) (ci := 0) (v := .ref (r 6)) (C := RX0) (T := TX0) (N := 16) hx hb hts in_X0 hown hK hP 0 rfl rfl 10 (by decide) (hts _ q40) (fun _ h9 => h9) rfl dX0_or_132 ?_
    refine lv_aload_n hx hb dX0_or_135 rfl (lv_at hl 1 rfl) ?_
    refine va_get (D := D) (ci := 0) (v := .int (nI (ht - 1))) (C := RX0) (T := TX0) (N := 16) hx hb hts in_X0 hown hK hP 0 rfl rfl 8 (by decide) (hts _ q38) (fun _ h9 => h9) rfl dX0_or_136 ?_
    refine lv_iconst (v := nI 1) hx hb dX0_or_139 (by decide) ?_
    refine xr_isub hx hb dX0_or_140 (by omega) ?_
    refine lv_aload_n hx hb dX0_or_141 rfl (lv_at hl 1 rfl) ?_
    refine va_get (D := D) (ci := 0) (v := .int (nI ss)) (C := RX0) (T := TX0) (N := 16) hx hb hts in_X0 hown hK hP 0 rfl rfl 3 (by decide) (hts _ q33) (fun _ h9 => h9) rfl dX0_or_142 ?_
    refine lv_iconst (v := nI 1) hx hb dX0_or_145 (by decide) ?_
    refine xr_iadd hx hb dX0_or_146 ?_
    refine xr_iast (f := en) hx hb hK hP hD hS 7 0 rfl rfl (by omega) (by decide) dX0_or_147 (fun H locs hP hD hS => ?_)
    have hP : va_P D vwCl (xw cI h r (mk + 1) ss ((((mv + 1) + 1) + 1) + 1) (ht - 1) hr nx fw bw (va_up (va_up (va_up (va_up kd mv 6) (mv + 1) 6) ((mv + 1) + 1) 6) (((mv + 1) + 1) + 1) 6) (va_up (va_up (va_up (va_up fr mv ss) (mv + 1) ss) ((mv + 1) + 1) (en ((ht - 1) - 1))) (((mv + 1) + 1) + 1) (en (ht - 1))) (va_up (va_up (va_up (va_up tt mv (st ((ht - 1) - 1))) (mv + 1) (st (ht - 1))) ((mv + 1) + 1) (ss + 1)) (((mv + 1) + 1) + 1) (ss + 1)) (va_up st ((ht - 1) - 1) ss) (va_up en ((ht - 1) - 1) (ss + 1)) ln lv cm) H := hP
    have hD : va_D A (xw cI h r (mk + 1) ss ((((mv + 1) + 1) + 1) + 1) (ht - 1) hr nx fw bw (va_up (va_up (va_up (va_up kd mv 6) (mv + 1) 6) ((mv + 1) + 1) 6) (((mv + 1) + 1) + 1) 6) (va_up (va_up (va_up (va_up fr mv ss) (mv + 1) ss) ((mv + 1) + 1) (en ((ht - 1) - 1))) (((mv + 1) + 1) + 1) (en (ht - 1))) (va_up (va_up (va_up (va_up tt mv (st ((ht - 1) - 1))) (mv + 1) (st (ht - 1))) ((mv + 1) + 1) (ss + 1)) (((mv + 1) + 1) + 1) (ss + 1)) (va_up st ((ht - 1) - 1) ss) (va_up en ((ht - 1) - 1) (ss + 1)) ln lv cm) := hD
    refine lv_aload_n hx hb dX0_or_148 rfl (lv_at hl 1 rfl) ?_
    refine lv_dup hx hb dX0_or_149 rfl ?_
    refine va_get (D := D) (ci := 0) (v := .int (nI ss)) (C := RX0) (T := TX0) (N := 16) hx hb hts in_X0 hown hK hP 0 rfl rfl 3 (by decide) (hts _ q33) (fun _ h9 => h9) rfl dX0_or_150 ?_
    refine lv_iconst (v := nI 2) hx hb dX0_or_153 (by decide) ?_
    refine xr_iadd hx hb dX0_or_154 ?_
    refine va_put (D := D) (ci := 0) (v := .int (nI (ss + 2))) (ty := .int) (C := RX0) (T := TX0) (N := 16) hx hb hts in_X0 tyX0 tyX0_ok nmX0 hown hK hP hD hS 0 rfl rfl 3 (by decide) (hts _ q33) (fun _ h9 => h9) rfl (by decide +kernel) rfl rfl (Nat.le_of_ble_eq_true rfl) dX0_or_155 (fun H locs hP hD hS => ?_)
    have hP : va_P D vwCl (xw cI h r (mk + 1) (ss + 2) ((((mv + 1) + 1) + 1) + 1) (ht - 1) hr nx fw bw (va_up (va_up (va_up (va_up kd mv 6) (mv + 1) 6) ((mv + 1) + 1) 6) (((mv + 1) + 1) + 1) 6) (va_up (va_up (va_up (va_up fr mv ss) (mv + 1) ss) ((mv + 1) + 1) (en ((ht - 1) - 1))) (((mv + 1) + 1) + 1) (en (ht - 1))) (va_up (va_up (va_up (va_up tt mv (st ((ht - 1) - 1))) (mv + 1) (st (ht - 1))) ((mv + 1) + 1) (ss + 1)) (((mv + 1) + 1) + 1) (ss + 1)) (va_up st ((ht - 1) - 1) ss) (va_up en ((ht - 1) - 1) (ss + 1)) ln lv cm) H := hP
    have hD : va_D A (xw cI h r (mk + 1) (ss + 2) ((((mv + 1) + 1) + 1) + 1) (ht - 1) hr nx fw bw (va_up (va_up (va_up (va_up kd mv 6) (mv + 1) 6) ((mv + 1) + 1) 6) (((mv + 1) + 1) + 1) 6) (va_up (va_up (va_up (va_up fr mv ss) (mv + 1) ss) ((mv + 1) + 1) (en ((ht - 1) - 1))) (((mv + 1) + 1) + 1) (en (ht - 1))) (va_up (va_up (va_up (va_up tt mv (st ((ht - 1) - 1))) (mv + 1) (st (ht - 1))) ((mv + 1) + 1) (ss + 1)) (((mv + 1) + 1) + 1) (ss + 1)) (va_up st ((ht - 1) - 1) ss) (va_up en ((ht - 1) - 1) (ss + 1)) ln lv cm) := hD
    refine lv_aload_n hx hb dX0_or_158 rfl (lv_at hl 1 rfl) ?_
    refine va_get (D := D) (ci := 0) (v := .int (nI (ht - 1))) (C := RX0) (T := TX0) (N := 16) hx hb hts in_X0 hown hK hP 0 rfl rfl 8 (by decide) (hts _ q38) (fun _ h9 => h9) rfl dX0_or_159 ?_
    exact hend (nI (ht - 1)) (mk + 1, ss + 2, (((mv + 1) + 1) + 1) + 1, ht - 1, va_up (va_up (va_up (va_up kd mv 6) (mv + 1) 6) ((mv + 1) + 1) 6) (((mv + 1) + 1) + 1) 6, va_up (va_up (va_up (va_up fr mv ss) (mv + 1) ss) ((mv + 1) + 1) (en ((ht - 1) - 1))) (((mv + 1) + 1) + 1) (en (ht - 1)), va_up (va_up (va_up (va_up tt mv (st ((ht - 1) - 1))) (mv + 1) (st (ht - 1))) ((mv + 1) + 1) (ss + 1)) (((mv + 1) + 1) + 1) (ss + 1), va_up st ((ht - 1) - 1) ss, va_up en ((ht - 1) - 1) (ss + 1)) _ _ _ _ dX0_or_162 rfl (Or.inr ⟨c7, rfl, rfl⟩) hP hD hS
  · refine lv_iload_n hx hb dX0_or_10 rfl (lv_at hl 0 rfl) ?_
    exact hend (rf mk ht 2) (mk, ss, mv, ht, kd, fr, tt, st, en) _ _ _ _ dX0_or_11 rfl (Or.inl ⟨c7, rfl, rfl⟩) hP hD hS
def xStar (mk ss mv ht : Nat) (kd fr tt st en : Nat → Nat) (x : Int32) (u : XA) : Prop := (rf mk ht 1 ≠ 0 ∧ x = rf mk ht 1 ∧ u = (mk, ss, mv, ht, kd, fr, tt, st, en)) ∨ (rf mk ht 1 = 0 ∧ x = nI ht ∧ u = (mk + 1, ss + 2, (((mv + 1) + 1) + 1) + 1, ht, va_up (va_up (va_up (va_up kd mv 6) (mv + 1) 6) ((mv + 1) + 1) 6) (((mv + 1) + 1) + 1) 6, va_up (va_up (va_up (va_up fr mv ss) (mv + 1) (en (ht - 1))) ((mv + 1) + 1) (en (ht - 1))) (((mv + 1) + 1) + 1) ss, va_up (va_up (va_up (va_up tt mv (st (ht - 1))) (mv + 1) (ss + 1)) ((mv + 1) + 1) (st (ht - 1))) (((mv + 1) + 1) + 1) (ss + 1), va_up st (ht - 1) ss, va_up en (ht - 1) (ss + 1)))
set_option maxHeartbeats 4000000 in
set_option maxRecDepth 100000 in
theorem X_star (l : Launch) (D : va_G) (cI cZ : ClassId) (h : Nat) (r : Nat → Nat) (mk ss mv ht hr nx : Nat) (fw bw kd fr tt st en ln lv cm : Nat → Nat) (hmk : mk ≤ 14) (hht : ht ≤ 6) (hmv : mv ≤ 4 * mk) :
    ct_i l yX0_star cX0_star 4 .int (rmL 1 23) D (tyL cI cZ) [.ref h] (xw cI h r mk ss mv ht hr nx fw bw kd fr tt st en ln lv cm) (XA) (fun x u => xStar  mk ss mv ht kd fr tt st en x u) (fun u => xwA cI h r u hr nx fw bw ln lv cm) := by
  refine ct_i_of (by decide) (Nat.le_of_ble_eq_true rfl) ?_
  intro p e s m args below meth c A Q ls F hK hP hD hS hA hend hl
  have F : CallFix p m c cX0_star 4 s args lw_all RX0 := F
  obtain ⟨hx, hb, hml, hown, hts⟩ := id F
  have hl : lv_has ls 4 [(0, .ref h)] := hl
  refine lv_aload_n hx hb dX0_star_0 rfl (lv_at hl 0 rfl) ?_
  refine lv_iconst (v := nI 1) hx hb dX0_star_1 (by decide) ?_
  refine cl_i0 (As := [.int (nI 1)]) (rest := []) (C := RX0) F (X_refusal l D cI cZ h r mk ss mv ht hr nx fw bw kd fr tt st en ln lv cm 1 (by omega) (by omega) (by decide)) (lw_V q95 q97 qs1 q20 q98) 1 rfl (by decide +kernel) ⟨Nat.le_of_ble_eq_true rfl, Nat.le_of_ble_eq_true rfl⟩ ⟨rfl, rfl⟩ ⟨Nat.zero_le _, Nat.zero_le _⟩ hK hP hD hS hA 0 0 rfl rfl hl.1 rfl (Nat.le_of_ble_eq_true rfl) dX0_star_2 (fun r1 u H locs hw hP hD hS => ?_)
  have hP : va_P D vwCl (xw cI h r mk ss mv ht hr nx fw bw kd fr tt st en ln lv cm) H := hP
  have hD : va_D A (xw cI h r mk ss mv ht hr nx fw bw kd fr tt st en ln lv cm) := hD
  subst hw
  refine lv_istore_n (lv' := [(1, .int (rf mk ht 1)), (0, .ref h)]) hx hb dX0_star_5 rfl hl (by decide) rfl (fun ls hl => ?_)
  refine lv_iload_n hx hb dX0_star_6 rfl (lv_at hl 0 rfl) ?_
  refine lv_if_eq (tgt := 12) hx hb dX0_star_7 (by decide) (fun c7 => ?_) (fun c7 => ?_)
  · have hrf := rf_0 c7
    have hr1 := hrf.2.1
    have hr2 := hrf.2.2
    refine lv_aload_n hx hb dX0_star_12 rfl (lv_at hl 1 rfl) ?_
    refine lv_dup hx hb dX0_star_13 rfl ?_
    refine va_get (D := D) (ci := 0) (v := .int (nI mk)) (C := RX0) (T := TX0) (N := 16) hx hb hts in_X0 hown hK hP 0 rfl rfl 2 (by decide) (hts _ q32) (fun _ h9 => h9) rfl dX0_star_14 ?_
    refine lv_iconst (v := nI 1) hx hb dX0_star_17 (by decide) ?_
    refine xr_iadd hx hb dX0_star_18 ?_
    refine va_put (D := D) (ci := 0) (v := .int (nI (mk + 1))) (ty := .int) (C := RX0) (T := TX0) (N := 16) hx hb hts in_X0 tyX0 tyX0_ok nmX0 hown hK hP hD hS 0 rfl rfl 2 (by decide) (hts _ q32) (fun _ h9 => h9) rfl (by decide +kernel) rfl rfl (Nat.le_of_ble_eq_true rfl) dX0_star_19 (fun H locs hP hD hS => ?_)
    have hP : va_P D vwCl (xw cI h r (mk + 1) ss mv ht hr nx fw bw kd fr tt st en ln lv cm) H := hP
    have hD : va_D A (xw cI h r (mk + 1) ss mv ht hr nx fw bw kd fr tt st en ln lv cm) := hD
    refine lv_aload_n hx hb dX0_star_22 rfl (lv_at hl 1 rfl) ?_
    refine va_get (D := D) (ci := 0) (v := .ref (r 5)) (C := RX0) (T := TX0) (N := 16) hx hb hts in_X0 hown hK hP 0 rfl rfl 9 (by decide) (hts _ q39) (fun _ h9 => h9) rfl dX0_star_23 ?_
    refine lv_aload_n hx hb dX0_star_26 rfl (lv_at hl 1 rfl) ?_
    refine va_get (D := D) (ci := 0) (v := .int (nI ht)) (C := RX0) (T := TX0) (N := 16) hx hb hts in_X0 hown hK hP 0 rfl rfl 8 (by decide) (hts _ q38) (fun _ h9 => h9) rfl dX0_star_27 ?_
    refine lv_iconst (v := nI 1) hx hb dX0_star_30 (by decide) ?_
    refine xr_isub hx hb dX0_star_31 (by omega) ?_
    refine xr_iald (f := st) hx hb hK hP 6 0 rfl rfl (by omega) (by decide) dX0_star_32 ?_
    refine lv_istore_n (lv' := [(2, .int (nI (st (ht - 1)))), (1, .int (rf mk ht 1)), (0, .ref h)]) hx hb dX0_star_33 rfl hl (by decide) rfl (fun ls hl => ?_)
    refine lv_aload_n hx hb dX0_star_34 rfl (lv_at hl 2 rfl) ?_
    refine va_get (D := D) (ci := 0) (v := .ref (r 6)) (C := RX0) (T := TX0) (N := 16) hx hb hts in_X0 hown hK hP 0 rfl rfl 10 (by decide) (hts _ q40) (fun _ h9 => h9) rfl dX0_star_35 ?_
    refine lv_aload_n hx hb dX0_star_38 rfl (lv_at hl 2 rfl) ?_
    refine va_get (D := D) (ci := 0) (v := .int (nI ht)) (C := RX0) (T := TX0) (N := 16) hx hb hts in_X0 hown hK hP 0 rfl rfl 8 (by decide) (hts _ q38) (fun _ h9 => h9) rfl dX0_star_39 ?_
    refine lv_iconst (v := nI 1) hx hb dX0_star_42 (by decide) ?_
    refine xr_isub hx hb dX0_star_43 (by omega) ?_
    refine xr_iald (f := en) hx hb hK hP 7 0 rfl rfl (by omega) (by decide) dX0_star_44 ?_
    refine lv_istore_n (lv' := [(3, .int (nI (en (ht - 1)))), (2, .int (nI (st (ht - 1)))), (1, .int (rf mk ht 1)), (0, .ref h)]) hx hb dX0_star_45 rfl hl (by decide) rfl (fun ls hl => ?_)
    refine lv_aload_n hx hb dX0_star_46 rfl (lv_at hl 3 rfl) ?_
    refine lv_bipush (v := nI 6) hx hb dX0_star_47 (by decide) ?_
    refine lv_aload_n hx hb dX0_star_49 rfl (lv_at hl 3 rfl) ?_
    refine va_get (D := D) (ci := 0) (v := .int (nI ss)) (C := RX0) (T := TX0) (N := 16) hx hb hts in_X0 hown hK hP 0 rfl rfl 3 (by decide) (hts _ q33) (fun _ h9 => h9) rfl dX0_star_50 ?_
    refine lv_iload_n hx hb dX0_star_53 rfl (lv_at hl 1 rfl) ?_
    refine cl_v0 (As := [.int (nI 6), .int (nI ss), .int (nI (st (ht - 1)))]) (rest := []) (C := RX0) F (X_addMove l D cI cZ h r (mk + 1) ss mv ht hr nx fw bw kd fr tt st en ln lv cm 6 ss (st (ht - 1)) (by omega)) (lw_V q99 q101 qs2 q20 q102) 3 rfl (by decide +kernel) ⟨Nat.le_of_ble_eq_true rfl, Nat.le_of_ble_eq_true rfl⟩ ⟨rfl, rfl⟩ ⟨Nat.zero_le _, Nat.zero_le _⟩ hK hP hD hS hA 0 0 rfl rfl hl.1 rfl (Nat.le_of_ble_eq_true rfl) dX0_star_54 (fun u H locs hw hP hD hS => ?_)
    have hP : va_P D vwCl (xw cI h r (mk + 1) ss (mv + 1) ht hr nx fw bw (va_up kd mv 6) (va_up fr mv ss) (va_up tt mv (st (ht - 1))) st en ln lv cm) H := hP
    have hD : va_D A (xw cI h r (mk + 1) ss (mv + 1) ht hr nx fw bw (va_up kd mv 6) (va_up fr mv ss) (va_up tt mv (st (ht - 1))) st en ln lv cm) := hD
    refine lv_aload_n hx hb dX0_star_57 rfl (lv_at hl 3 rfl) ?_
    refine lv_bipush (v := nI 6) hx hb dX0_star_58 (by decide) ?_
    refine lv_iload_n hx hb dX0_star_60 rfl (lv_at hl 0 rfl) ?_
    refine lv_aload_n hx hb dX0_star_61 rfl (lv_at hl 3 rfl) ?_
    refine va_get (D := D) (ci := 0) (v := .int (nI ss)) (C := RX0) (T := TX0) (N := 16) hx hb hts in_X0 hown hK hP 0 rfl rfl 3 (by decide) (hts _ q33) (fun _ h9 => h9) rfl dX0_star_62 ?_
    refine lv_iconst (v := nI 1) hx hb dX0_star_65 (by decide) ?_
    refine xr_iadd hx hb dX0_star_66 ?_
    refine cl_v0 (As := [.int (nI 6), .int (nI (en (ht - 1))), .int (nI (ss + 1))]) (rest := []) (C := RX0) F (X_addMove l D cI cZ h r (mk + 1) ss (mv + 1) ht hr nx fw bw (va_up kd mv 6) (va_up fr mv ss) (va_up tt mv (st (ht - 1))) st en ln lv cm 6 (en (ht - 1)) (ss + 1) (by omega)) (lw_V q99 q101 qs2 q20 q102) 3 rfl (by decide +kernel) ⟨Nat.le_of_ble_eq_true rfl, Nat.le_of_ble_eq_true rfl⟩ ⟨rfl, rfl⟩ ⟨Nat.zero_le _, Nat.zero_le _⟩ hK hP hD hS hA 0 0 rfl rfl hl.1 rfl (Nat.le_of_ble_eq_true rfl) dX0_star_67 (fun u H locs hw hP hD hS => ?_)
    have hP : va_P D vwCl (xw cI h r (mk + 1) ss ((mv + 1) + 1) ht hr nx fw bw (va_up (va_up kd mv 6) (mv + 1) 6) (va_up (va_up fr mv ss) (mv + 1) (en (ht - 1))) (va_up (va_up tt mv (st (ht - 1))) (mv + 1) (ss + 1)) st en ln lv cm) H := hP
    have hD : va_D A (xw cI h r (mk + 1) ss ((mv + 1) + 1) ht hr nx fw bw (va_up (va_up kd mv 6) (mv + 1) 6) (va_up (va_up fr mv ss) (mv + 1) (en (ht - 1))) (va_up (va_up tt mv (st (ht - 1))) (mv + 1) (ss + 1)) st en ln lv cm) := hD
    refine lv_aload_n hx hb dX0_star_70 rfl (lv_at hl 3 rfl) ?_
    refine lv_bipush (v := nI 6) hx hb dX0_star_71 (by decide) ?_
    refine lv_iload_n hx hb dX0_star_73 rfl (lv_at hl 0 rfl) ?_
    refine lv_iload_n hx hb dX0_star_74 rfl (lv_at hl 1 rfl) ?_
    refine cl_v0 (As := [.int (nI 6), .int (nI (en (ht - 1))), .int (nI (st (ht - 1)))]) (rest := []) (C := RX0) F (X_addMove l D cI cZ h r (mk + 1) ss ((mv + 1) + 1) ht hr nx fw bw (va_up (va_up kd mv 6) (mv + 1) 6) (va_up (va_up fr mv ss) (mv + 1) (en (ht - 1))) (va_up (va_up tt mv (st (ht - 1))) (mv + 1) (ss + 1)) st en ln lv cm 6 (en (ht - 1)) (st (ht - 1)) (by omega)) (lw_V q99 q101 qs2 q20 q102) 3 rfl (by decide +kernel) ⟨Nat.le_of_ble_eq_true rfl, Nat.le_of_ble_eq_true rfl⟩ ⟨rfl, rfl⟩ ⟨Nat.zero_le _, Nat.zero_le _⟩ hK hP hD hS hA 0 0 rfl rfl hl.1 rfl (Nat.le_of_ble_eq_true rfl) dX0_star_75 (fun u H locs hw hP hD hS => ?_)
    have hP : va_P D vwCl (xw cI h r (mk + 1) ss (((mv + 1) + 1) + 1) ht hr nx fw bw (va_up (va_up (va_up kd mv 6) (mv + 1) 6) ((mv + 1) + 1) 6) (va_up (va_up (va_up fr mv ss) (mv + 1) (en (ht - 1))) ((mv + 1) + 1) (en (ht - 1))) (va_up (va_up (va_up tt mv (st (ht - 1))) (mv + 1) (ss + 1)) ((mv + 1) + 1) (st (ht - 1))) st en ln lv cm) H := hP
    have hD : va_D A (xw cI h r (mk + 1) ss (((mv + 1) + 1) + 1) ht hr nx fw bw (va_up (va_up (va_up kd mv 6) (mv + 1) 6) ((mv + 1) + 1) 6) (va_up (va_up (va_up fr mv ss) (mv + 1) (en (ht - 1))) ((mv + 1) + 1) (en (ht - 1))) (va_up (va_up (va_up tt mv (st (ht - 1))) (mv + 1) (ss + 1)) ((mv + 1) + 1) (st (ht - 1))) st en ln lv cm) := hD
    refine lv_aload_n hx hb dX0_star_78 rfl (lv_at hl 3 rfl) ?_
    refine lv_bipush (v := nI 6) hx hb dX0_star_79 (by decide) ?_
    refine lv_aload_n hx hb dX0_star_81 rfl (lv_at hl 3 rfl) ?_
    refine va_get (D := D) (ci := 0) (v := .int (nI ss)) (C := RX0) (T := TX0) (N := 16) hx hb hts in_X0 hown hK hP 0 rfl rfl 3 (by decide) (hts _ q33) (fun _ h9 => h9) rfl dX0_star_82 ?_
    refine lv_aload_n hx hb dX0_star_85 rfl (lv_at hl 3 rfl) ?_
    refine va_get (D := D) (ci := 0) (v := .int (nI ss)) (C := RX0) (T := TX0) (N := 16) hx hb hts in_X0 hown hK hP 0 rfl rfl 3 (by decide) (hts _ q33) (fun _ h9 => h9) rfl dX0_star_86 ?_
    refine lv_iconst (v := nI 1) hx hb dX0_star_89 (by decide) ?_
    refine xr_iadd hx hb dX0_star_90 ?_
    refine cl_v0 (As := [.int (nI 6), .int (nI ss), .int (nI (ss + 1))]) (rest := []) (C := RX0) F (X_addMove l D cI cZ h r (mk + 1) ss (((mv + 1) + 1) + 1) ht hr nx fw bw (va_up (va_up (va_up kd mv 6) (mv + 1) 6) ((mv + 1) + 1) 6) (va_up (va_up (va_up fr mv ss) (mv + 1) (en (ht - 1))) ((mv + 1) + 1) (en (ht - 1))) (va_up (va_up (va_up tt mv (st (ht - 1))) (mv + 1) (ss + 1)) ((mv + 1) + 1) (st (ht - 1))) st en ln lv cm 6 ss (ss + 1) (by omega)) (lw_V q99 q101 qs2 q20 q102) 3 rfl (by decide +kernel) ⟨Nat.le_of_ble_eq_true rfl, Nat.le_of_ble_eq_true rfl⟩ ⟨rfl, rfl⟩ ⟨Nat.zero_le _, Nat.zero_le _⟩ hK hP hD hS hA 0 0 rfl rfl hl.1 rfl (Nat.le_of_ble_eq_true rfl) dX0_star_91 (fun u H locs hw hP hD hS => ?_)
    have hP : va_P D vwCl (xw cI h r (mk + 1) ss ((((mv + 1) + 1) + 1) + 1) ht hr nx fw bw (va_up (va_up (va_up (va_up kd mv 6) (mv + 1) 6) ((mv + 1) + 1) 6) (((mv + 1) + 1) + 1) 6) (va_up (va_up (va_up (va_up fr mv ss) (mv + 1) (en (ht - 1))) ((mv + 1) + 1) (en (ht - 1))) (((mv + 1) + 1) + 1) ss) (va_up (va_up (va_up (va_up tt mv (st (ht - 1))) (mv + 1) (ss + 1)) ((mv + 1) + 1) (st (ht - 1))) (((mv + 1) + 1) + 1) (ss + 1)) st en ln lv cm) H := hP
    have hD : va_D A (xw cI h r (mk + 1) ss ((((mv + 1) + 1) + 1) + 1) ht hr nx fw bw (va_up (va_up (va_up (va_up kd mv 6) (mv + 1) 6) ((mv + 1) + 1) 6) (((mv + 1) + 1) + 1) 6) (va_up (va_up (va_up (va_up fr mv ss) (mv + 1) (en (ht - 1))) ((mv + 1) + 1) (en (ht - 1))) (((mv + 1) + 1) + 1) ss) (va_up (va_up (va_up (va_up tt mv (st (ht - 1))) (mv + 1) (ss + 1)) ((mv + 1) + 1) (st (ht - 1))) (((mv + 1) + 1) + 1) (ss + 1)) st en ln lv cm) := hD
    refine lv_aload_n hx hb dX0_star_94 rfl (lv_at hl 3 rfl) ?_
    refine va_get (D := D) (ci := 0) (v := .ref (r 5)) (C := RX0) (T := TX0) (N := 16) hx hb hts in_X0 hown hK hP 0 rfl rfl 9 (by decide) (hts _ q39) (fun _ h9 => h9) rfl dX0_star_95 ?_
    refine lv_aload_n hx hb dX0_star_98 rfl (lv_at hl 3 rfl) ?_
    refine va_get (D := D) (ci := 0) (v := .int (nI ht)) (C := RX0) (T := TX0) (N := 16) hx hb hts in_X0 hown hK hP 0 rfl rfl 8 (by decide) (hts _ q38) (fun _ h9 => h9) rfl dX0_star_99 ?_
    refine lv_iconst (v := nI 1) hx hb dX0_star_102 (by decide) ?_
    refine xr_isub hx hb dX0_star_103 (by omega) ?_
    refine lv_aload_n hx hb dX0_star_104 rfl (lv_at hl 3 rfl) ?_
    refine va_get (D := D) (ci := 0) (v := .int (nI ss)) (C := RX0) (T := TX0) (N := 16) hx hb hts in_X0 hown hK hP 0 rfl rfl 3 (by decide) (hts _ q33) (fun _ h9 => h9) rfl dX0_star_105 ?_
    refine xr_iast (f := st) hx hb hK hP hD hS 6 0 rfl rfl (by omega) (by decide) dX0_star_108 (fun H locs hP hD hS => ?_)
    have hP : va_P D vwCl (xw cI h r (mk + 1) ss ((((mv + 1) + 1) + 1) + 1) ht hr nx fw bw (va_up (va_up (va_up (va_up kd mv 6) (mv + 1) 6) ((mv + 1) + 1) 6) (((mv + 1) + 1) + 1) 6) (va_up (va_up (va_up (va_up fr mv ss) (mv + 1) (en (ht - 1))) ((mv + 1) + 1) (en (ht - 1))) (((mv + 1) + 1) + 1) ss) (va_up (va_up (va_up (va_up tt mv (st (ht - 1))) (mv + 1) (ss + 1)) ((mv + 1) + 1) (st (ht - 1))) (((mv + 1) + 1) + 1) (ss + 1)) (va_up st (ht - 1) ss) en ln lv cm) H := hP
    have hD : va_D A (xw cI h r (mk + 1) ss ((((mv + 1) + 1) + 1) + 1) ht hr nx fw bw (va_up (va_up (va_up (va_up kd mv 6) (mv + 1) 6) ((mv + 1) + 1) 6) (((mv + 1) + 1) + 1) 6) (va_up (va_up (va_up (va_up fr mv ss) (mv + 1) (en (ht - 1))) ((mv + 1) + 1) (en (ht - 1))) (((mv + 1) + 1) + 1) ss) (va_up (va_up (va_up (va_up tt mv (st (ht - 1))) (mv + 1) (ss + 1)) ((mv + 1) + 1) (st (ht - 1))) (((mv + 1) + 1) + 1) (ss + 1)) (va_up st (ht - 1) ss) en ln lv cm) := hD
    refine lv_aload_n hx hb dX0_star_109 rfl (lv_at hl 3 rfl) ?_
    refine va_get (D := D) (ci := 0) (v := .ref (r 6)) (C := RX0) (T := TX0) (N := 16) hx hb hts in_X0 hown hK hP 0 rfl rfl 10 (by decide) (hts _ q40) (fun _ h9 => h9) rfl dX0_star_110 ?_
    refine lv_aload_n hx hb dX0_star_113 rfl (lv_at hl 3 rfl) ?_
    refine va_get (D := D) (ci := 0) (v := .int (nI ht)) (C := RX0) (T := TX0) (N := 16) hx hb hts in_X0 hown hK hP 0 rfl rfl 8 (by decide) (hts _ q38) (fun _ h9 => h9) rfl dX0_star_114 ?_
    refine lv_iconst (v := nI 1) hx hb dX0_star_117 (by decide) ?_
    refine xr_isub hx hb dX0_star_118 (by omega) ?_
    refine lv_aload_n hx hb dX0_star_119 rfl (lv_at hl 3 rfl) ?_
    refine va_get (D := D) (ci := 0) (v := .int (nI ss)) (C := RX0) (T := TX0) (N := 16) hx hb hts in_X0 hown hK hP 0 rfl rfl 3 (by decide) (hts _ q33) (fun _ h9 => h9) rfl dX0_star_120 ?_
    refine lv_iconst (v := nI 1) hx hb dX0_star_123 (by decide) ?_
    refine xr_iadd hx hb dX0_star_124 ?_
    refine xr_iast (f := en) hx hb hK hP hD hS 7 0 rfl rfl (by omega) (by decide) dX0_star_125 (fun H locs hP hD hS => ?_)
    have hP : va_P D vwCl (xw cI h r (mk + 1) ss ((((mv + 1) + 1) + 1) + 1) ht hr nx fw bw (va_up (va_up (va_up (va_up kd mv 6) (mv + 1) 6) ((mv + 1) + 1) 6) (((mv + 1) + 1) + 1) 6) (va_up (va_up (va_up (va_up fr mv ss) (mv + 1) (en (ht - 1))) ((mv + 1) + 1) (en (ht - 1))) (((mv + 1) + 1) + 1) ss) (va_up (va_up (va_up (va_up tt mv (st (ht - 1))) (mv + 1) (ss + 1)) ((mv + 1) + 1) (st (ht - 1))) (((mv + 1) + 1) + 1) (ss + 1)) (va_up st (ht - 1) ss) (va_up en (ht - 1) (ss + 1)) ln lv cm) H := hP
    have hD : va_D A (xw cI h r (mk + 1) ss ((((mv + 1) + 1) + 1) + 1) ht hr nx fw bw (va_up (va_up (va_up (va_up kd mv 6) (mv + 1) 6) ((mv + 1) + 1) 6) (((mv + 1) + 1) + 1) 6) (va_up (va_up (va_up (va_up fr mv ss) (mv + 1) (en (ht - 1))) ((mv + 1) + 1) (en (ht - 1))) (((mv + 1) + 1) + 1) ss) (va_up (va_up (va_up (va_up tt mv (st (ht - 1))) (mv + 1) (ss + 1)) ((mv + 1) + 1) (st (ht - 1))) (((mv + 1) + 1) + 1) (ss + 1)) (va_up st (ht - 1) ss) (va_up en (ht - 1) (ss + 1)) ln lv cm) := hD
    refine lv_aload_n hx hb dX0_star_126 rfl (lv_at hl 3 rfl) ?_
    refine lv_dup hx hb dX0_star_127 rfl ?_
    refine va_get (D := D) (ci := 0) (v := .int (nI ss)) (C := RX0) (T := TX0) (N := 16) hx hb hts in_X0 hown hK hP 0 rfl rfl 3 (by decide) (hts _ q33) (fun _ h9 => h9) rfl dX0_star_128 ?_
    refine lv_iconst (v := nI 2) hx hb dX0_star_131 (by decide) ?_
    refine xr_iadd hx hb dX0_star_132 ?_
    refine va_put (D := D) (ci := 0) (v := .int (nI (ss + 2))) (ty := .int) (C := RX0) (T := TX0) (N := 16) hx hb hts in_X0 tyX0 tyX0_ok nmX0 hown hK hP hD hS 0 rfl rfl 3 (by decide) (hts _ q33) (fun _ h9 => h9) rfl (by decide +kernel) rfl rfl (Nat.le_of_ble_eq_true rfl) dX0_star_133 (fun H locs hP hD hS => ?_)
    have hP : va_P D vwCl (xw cI h r (mk + 1) (ss + 2) ((((mv + 1) + 1) + 1) + 1) ht hr nx fw bw (va_up (va_up (va_up (va_up kd mv 6) (mv + 1) 6) ((mv + 1) + 1) 6) (((mv + 1) + 1) + 1) 6) (va_up (va_up (va_up (va_up fr mv ss) (mv + 1) (en (ht - 1))) ((mv + 1) + 1) (en (ht - 1))) (((mv + 1) + 1) + 1) ss) (va_up (va_up (va_up (va_up tt mv (st (ht - 1))) (mv + 1) (ss + 1)) ((mv + 1) + 1) (st (ht - 1))) (((mv + 1) + 1) + 1) (ss + 1)) (va_up st (ht - 1) ss) (va_up en (ht - 1) (ss + 1)) ln lv cm) H := hP
    have hD : va_D A (xw cI h r (mk + 1) (ss + 2) ((((mv + 1) + 1) + 1) + 1) ht hr nx fw bw (va_up (va_up (va_up (va_up kd mv 6) (mv + 1) 6) ((mv + 1) + 1) 6) (((mv + 1) + 1) + 1) 6) (va_up (va_up (va_up (va_up fr mv ss) (mv + 1) (en (ht - 1))) ((mv + 1) + 1) (en (ht - 1))) (((mv + 1) + 1) + 1) ss) (va_up (va_up (va_up (va_up tt mv (st (ht - 1))) (mv + 1) (ss + 1)) ((mv + 1) + 1) (st (ht - 1))) (((mv + 1) + 1) + 1) (ss + 1)) (va_up st (ht - 1) ss) (va_up en (ht - 1) (ss + 1)) ln lv cm) := hD
    refine lv_aload_n hx hb dX0_star_136 rfl (lv_at hl 3 rfl) ?_
    refine va_get (D := D) (ci := 0) (v := .int (nI ht)) (C := RX0) (T := TX0) (N := 16) hx hb hts in_X0 hown hK hP 0 rfl rfl 8 (by decide) (hts _ q38) (fun _ h9 => h9) rfl dX0_star_137 ?_
    exact hend (nI ht) (mk + 1, ss + 2, (((mv + 1) + 1) + 1) + 1, ht, va_up (va_up (va_up (va_up kd mv 6) (mv + 1) 6) ((mv + 1) + 1) 6) (((mv + 1) + 1) + 1) 6, va_up (va_up (va_up (va_up fr mv ss) (mv + 1) (en (ht - 1))) ((mv + 1) + 1) (en (ht - 1))) (((mv + 1) + 1) + 1) ss, va_up (va_up (va_up (va_up tt mv (st (ht - 1))) (mv + 1) (ss + 1)) ((mv + 1) + 1) (st (ht - 1))) (((mv + 1) + 1) + 1) (ss + 1), va_up st (ht - 1) ss, va_up en (ht - 1) (ss + 1)) _ _ _ _ dX0_star_140 rfl (Or.inr ⟨c7, rfl, rfl⟩) hP hD hS
  · refine lv_iload_n hx hb dX0_star_10 rfl (lv_at hl 0 rfl) ?_
    exact hend (rf mk ht 1) (mk, ss, mv, ht, kd, fr, tt, st, en) _ _ _ _ dX0_star_11 rfl (Or.inl ⟨c7, rfl, rfl⟩) hP hD hS
set_option maxHeartbeats 4000000 in
set_option maxRecDepth 100000 in
theorem X_label (l : Launch) (D : va_G) (cI cZ : ClassId) (h : Nat) (r : Nat → Nat) (mk ss mv ht hr nx : Nat) (fw bw kd fr tt st en ln lv cm : Nat → Nat) (n : Int32) (hmk : mk ≤ 14) (hht : ht ≤ 6) (hmv : mv ≤ 4 * mk) :
    ct_i l yX0_label cX0_label 2 .int (rmL 2 45) D (tyL cI cZ) [.ref h, .int n] (xw cI h r mk ss mv ht hr nx fw bw kd fr tt st en ln lv cm) (XA) (fun x u => (¬ inR n 3 ∧ x = -1 ∧ u = (mk, ss, mv, ht, kd, fr, tt, st, en)) ∨ (∃ j, j < 3 ∧ n = nI j ∧ xPush (j) mk ss mv ht kd fr tt st en x u)) (fun u => xwA cI h r u hr nx fw bw ln lv cm) := by
  refine ct_i_of (by decide) (Nat.le_of_ble_eq_true rfl) ?_
  intro p e s m args below meth c A Q ls F hK hP hD hS hA hend hl
  have F : CallFix p m c cX0_label 2 s args lw_all RX0 := F
  obtain ⟨hx, hb, hml, hown, hts⟩ := id F
  have hl : lv_has ls 2 [(0, .ref h), (1, .int n)] := hl
  refine lv_iload_n hx hb dX0_label_0 rfl (lv_at hl 1 rfl) ?_
  refine cs_i0 (As := [.int n]) (rest := []) F (X_badLabel l D cI cZ (xw cI h r mk ss mv ht hr nx fw bw kd fr tt st en ln lv cm) n) (lw_S q84 q85 q20 q86) 1 rfl (by decide +kernel) ⟨Nat.le_of_ble_eq_true rfl, Nat.le_of_ble_eq_true rfl⟩ ⟨rfl, rfl⟩ ⟨Nat.zero_le _, Nat.zero_le _⟩ hK hP hD hS hA hl.1 rfl (Nat.le_of_ble_eq_true rfl) dX0_label_1 (fun r1 u H locs hw hP hD hS => ?_)
  have hP : va_P D vwCl (xw cI h r mk ss mv ht hr nx fw bw kd fr tt st en ln lv cm) H := hP
  have hD : va_D A (xw cI h r mk ss mv ht hr nx fw bw kd fr tt st en ln lv cm) := hD
  rcases hw with ⟨rfl, hw⟩ | ⟨rfl, hw⟩
  · obtain ⟨j, hj, rfl⟩ := hw
    refine xr_if_eq (tgt := 11) hx hb dX0_label_4 (by decide) (by omega) (fun c4 => ?_) (fun c4 => ?_)
    · refine lv_aload_n hx hb dX0_label_11 rfl (lv_at hl 0 rfl) ?_
      refine lv_iload_n hx hb dX0_label_12 rfl (lv_at hl 1 rfl) ?_
      refine cl_i0 (As := [.int (nI j)]) (rest := []) (C := RX0) F (X_pushMove l D cI cZ h r mk ss mv ht hr nx fw bw kd fr tt st en ln lv cm j hmk hht hmv) (lw_V q91 q93 qs0 q20 q94) 1 rfl (by decide +kernel) ⟨Nat.le_of_ble_eq_true rfl, Nat.le_of_ble_eq_true rfl⟩ ⟨rfl, rfl⟩ ⟨Nat.zero_le _, Nat.zero_le _⟩ hK hP hD hS hA 0 0 rfl rfl hl.1 rfl (Nat.le_of_ble_eq_true rfl) dX0_label_13 (fun r1 u H locs hw hP hD hS => ?_)
      have hP : va_P D vwCl (xw cI h r u.1 u.2.1 u.2.2.1 u.2.2.2.1 hr nx fw bw u.2.2.2.2.1 u.2.2.2.2.2.1 u.2.2.2.2.2.2.1 u.2.2.2.2.2.2.2.1 u.2.2.2.2.2.2.2.2 ln lv cm) H := hP
      have hD : va_D A (xw cI h r u.1 u.2.1 u.2.2.1 u.2.2.2.1 hr nx fw bw u.2.2.2.2.1 u.2.2.2.2.2.1 u.2.2.2.2.2.2.1 u.2.2.2.2.2.2.2.1 u.2.2.2.2.2.2.2.2 ln lv cm) := hD
      exact hend (r1) u _ _ _ _ dX0_label_16 rfl (Or.inr ⟨j, hj, rfl, hw⟩) hP hD hS
    · omega
  · refine xr_if_eq (tgt := 11) hx hb dX0_label_4 (by decide) (by omega) (fun c4 => ?_) (fun c4 => ?_)
    · omega
    · refine lv_iconst (v := (-1)) hx hb dX0_label_7 (by decide) ?_
      refine lv_goto (tgt := 16) hx hb dX0_label_8 (by decide) ?_
      exact hend ((-1)) (mk, ss, mv, ht, kd, fr, tt, st, en) _ _ _ _ dX0_label_16 rfl (Or.inl ⟨hw, rfl, rfl⟩) hP hD hS
set_option maxHeartbeats 4000000 in
set_option maxRecDepth 100000 in
theorem X_back (l : Launch) (D : va_G) (cI cZ : ClassId) (h : Nat) (r : Nat → Nat) (mk ss mv ht hr nx : Nat) (fw bw kd fr tt st en ln lv cm : Nat → Nat) (n : Int32) (hmk : mk ≤ 14) (hht : ht ≤ 6) (hmv : mv ≤ 4 * mk) :
    ct_i l yX0_back cX0_back 2 .int (rmL 2 45) D (tyL cI cZ) [.ref h, .int n] (xw cI h r mk ss mv ht hr nx fw bw kd fr tt st en ln lv cm) (XA) (fun x u => (¬ inR n 3 ∧ x = -1 ∧ u = (mk, ss, mv, ht, kd, fr, tt, st, en)) ∨ (∃ j, j < 3 ∧ n = nI j ∧ xPush (3 + j) mk ss mv ht kd fr tt st en x u)) (fun u => xwA cI h r u hr nx fw bw ln lv cm) := by
  refine ct_i_of (by decide) (Nat.le_of_ble_eq_true rfl) ?_
  intro p e s m args below meth c A Q ls F hK hP hD hS hA hend hl
  have F : CallFix p m c cX0_back 2 s args lw_all RX0 := F
  obtain ⟨hx, hb, hml, hown, hts⟩ := id F
  have hl : lv_has ls 2 [(0, .ref h), (1, .int n)] := hl
  refine lv_iload_n hx hb dX0_back_0 rfl (lv_at hl 1 rfl) ?_
  refine cs_i0 (As := [.int n]) (rest := []) F (X_badLabel l D cI cZ (xw cI h r mk ss mv ht hr nx fw bw kd fr tt st en ln lv cm) n) (lw_S q84 q85 q20 q86) 1 rfl (by decide +kernel) ⟨Nat.le_of_ble_eq_true rfl, Nat.le_of_ble_eq_true rfl⟩ ⟨rfl, rfl⟩ ⟨Nat.zero_le _, Nat.zero_le _⟩ hK hP hD hS hA hl.1 rfl (Nat.le_of_ble_eq_true rfl) dX0_back_1 (fun r1 u H locs hw hP hD hS => ?_)
  have hP : va_P D vwCl (xw cI h r mk ss mv ht hr nx fw bw kd fr tt st en ln lv cm) H := hP
  have hD : va_D A (xw cI h r mk ss mv ht hr nx fw bw kd fr tt st en ln lv cm) := hD
  rcases hw with ⟨rfl, hw⟩ | ⟨rfl, hw⟩
  · obtain ⟨j, hj, rfl⟩ := hw
    refine xr_if_eq (tgt := 11) hx hb dX0_back_4 (by decide) (by omega) (fun c4 => ?_) (fun c4 => ?_)
    · refine lv_aload_n hx hb dX0_back_11 rfl (lv_at hl 0 rfl) ?_
      refine lv_iconst (v := nI 3) hx hb dX0_back_12 (by decide) ?_
      refine lv_iload_n hx hb dX0_back_13 rfl (lv_at hl 1 rfl) ?_
      refine xr_iadd hx hb dX0_back_14 ?_
      refine cl_i0 (As := [.int (nI (3 + j))]) (rest := []) (C := RX0) F (X_pushMove l D cI cZ h r mk ss mv ht hr nx fw bw kd fr tt st en ln lv cm (3 + j) hmk hht hmv) (lw_V q91 q93 qs0 q20 q94) 1 rfl (by decide +kernel) ⟨Nat.le_of_ble_eq_true rfl, Nat.le_of_ble_eq_true rfl⟩ ⟨rfl, rfl⟩ ⟨Nat.zero_le _, Nat.zero_le _⟩ hK hP hD hS hA 0 0 rfl rfl hl.1 rfl (Nat.le_of_ble_eq_true rfl) dX0_back_15 (fun r1 u H locs hw hP hD hS => ?_)
      have hP : va_P D vwCl (xw cI h r u.1 u.2.1 u.2.2.1 u.2.2.2.1 hr nx fw bw u.2.2.2.2.1 u.2.2.2.2.2.1 u.2.2.2.2.2.2.1 u.2.2.2.2.2.2.2.1 u.2.2.2.2.2.2.2.2 ln lv cm) H := hP
      have hD : va_D A (xw cI h r u.1 u.2.1 u.2.2.1 u.2.2.2.1 hr nx fw bw u.2.2.2.2.1 u.2.2.2.2.2.1 u.2.2.2.2.2.2.1 u.2.2.2.2.2.2.2.1 u.2.2.2.2.2.2.2.2 ln lv cm) := hD
      exact hend (r1) u _ _ _ _ dX0_back_18 rfl (Or.inr ⟨j, hj, rfl, hw⟩) hP hD hS
    · omega
  · refine xr_if_eq (tgt := 11) hx hb dX0_back_4 (by decide) (by omega) (fun c4 => ?_) (fun c4 => ?_)
    · omega
    · refine lv_iconst (v := (-1)) hx hb dX0_back_7 (by decide) ?_
      refine lv_goto (tgt := 18) hx hb dX0_back_8 (by decide) ?_
      exact hend ((-1)) (mk, ss, mv, ht, kd, fr, tt, st, en) _ _ _ _ dX0_back_18 rfl (Or.inl ⟨hw, rfl, rfl⟩) hP hD hS
theorem at_m1 {n : Int32} (h1 : ¬ n < -1) (h2 : ¬ 0 ≤ n) : n = -1 := by
  rw [fa_lt, show (-1 : Int32).toInt = -1 from rfl] at h1
  rw [fa_le, show (0 : Int32).toInt = 0 from rfl] at h2
  rw [fa_eq, show (-1 : Int32).toInt = -1 from rfl]
  omega
set_option maxHeartbeats 4000000 in
set_option maxRecDepth 100000 in
theorem X_at (l : Launch) (D : va_G) (cI cZ : ClassId) (h : Nat) (r : Nat → Nat) (mk ss mv ht hr nx : Nat) (fw bw kd fr tt st en ln lv cm : Nat → Nat) (n : Int32) (hmk : mk ≤ 14) (hht : ht ≤ 6) (hmv : mv ≤ 4 * mk) :
    ct_i l yX0_at cX0_at 2 .int (rmL 2 45) D (tyL cI cZ) [.ref h, .int n] (xw cI h r mk ss mv ht hr nx fw bw kd fr tt st en ln lv cm) (XA) (fun x u => (¬ n = -1 ∧ ¬ inR n 8 ∧ x = -2 ∧ u = (mk, ss, mv, ht, kd, fr, tt, st, en)) ∨ (n = -1 ∧ xPush 6 mk ss mv ht kd fr tt st en x u) ∨ (∃ j, j < 8 ∧ n = nI j ∧ xPush (7 + j) mk ss mv ht kd fr tt st en x u)) (fun u => xwA cI h r u hr nx fw bw ln lv cm) := by
  refine ct_i_of (by decide) (Nat.le_of_ble_eq_true rfl) ?_
  intro p e s m args below meth c A Q ls F hK hP hD hS hA hend hl
  have F : CallFix p m c cX0_at 2 s args lw_all RX0 := F
  obtain ⟨hx, hb, hml, hown, hts⟩ := id F
  have hl : lv_has ls 2 [(0, .ref h), (1, .int n)] := hl
  refine lv_iload_n hx hb dX0_at_0 rfl (lv_at hl 1 rfl) ?_
  refine lv_iconst (v := (-1)) hx hb dX0_at_1 (by decide) ?_
  refine lv_icmp_lt (tgt := 11) hx hb dX0_at_2 (by decide) (fun c2 => ?_) (fun c2 => ?_)
  · refine lv_bipush (v := (-2)) hx hb dX0_at_11 (by decide) ?_
    exact hend ((-2)) (mk, ss, mv, ht, kd, fr, tt, st, en) _ _ _ _ dX0_at_13 rfl (Or.inl (by first | exact ⟨fun q => by subst q; exact absurd c2 (by decide), inR_n0 (by decide) (fa_trans c2 (by decide)), rfl, rfl⟩ | exact ⟨fun q => by subst q; exact c8 (by decide), inR_nlt (by decide) c8, rfl, rfl⟩)) hP hD hS
  · refine lv_iload_n hx hb dX0_at_5 rfl (lv_at hl 1 rfl) ?_
    refine lv_bipush (v := nI 8) hx hb dX0_at_6 (by decide) ?_
    refine lv_icmp_lt (tgt := 14) hx hb dX0_at_8 (by decide) (fun c8 => ?_) (fun c8 => ?_)
    · refine lv_aload_n hx hb dX0_at_14 rfl (lv_at hl 0 rfl) ?_
      refine lv_iload_n hx hb dX0_at_15 rfl (lv_at hl 1 rfl) ?_
      refine lv_if_ge (tgt := 24) hx hb dX0_at_16 (by decide) (fun c16 => ?_) (fun c16 => ?_)
      · obtain ⟨j, hj, rfl⟩ := inR_lt (by decide) (fun q => fa_of_lt q |>.2.1 c16) c8
        refine lv_bipush (v := nI 7) hx hb dX0_at_24 (by decide) ?_
        refine lv_iload_n hx hb dX0_at_26 rfl (lv_at hl 1 rfl) ?_
        refine xr_iadd hx hb dX0_at_27 ?_
        refine cl_i0 (As := [.int (nI (7 + j))]) (rest := []) (C := RX0) F (X_pushMove l D cI cZ h r mk ss mv ht hr nx fw bw kd fr tt st en ln lv cm (7 + j) hmk hht hmv) (lw_V q91 q93 qs0 q20 q94) 1 rfl (by decide +kernel) ⟨Nat.le_of_ble_eq_true rfl, Nat.le_of_ble_eq_true rfl⟩ ⟨rfl, rfl⟩ ⟨Nat.zero_le _, Nat.zero_le _⟩ hK hP hD hS hA 0 0 rfl rfl hl.1 rfl (Nat.le_of_ble_eq_true rfl) dX0_at_28 (fun r1 u H locs hw hP hD hS => ?_)
        have hP : va_P D vwCl (xw cI h r u.1 u.2.1 u.2.2.1 u.2.2.2.1 hr nx fw bw u.2.2.2.2.1 u.2.2.2.2.2.1 u.2.2.2.2.2.2.1 u.2.2.2.2.2.2.2.1 u.2.2.2.2.2.2.2.2 ln lv cm) H := hP
        have hD : va_D A (xw cI h r u.1 u.2.1 u.2.2.1 u.2.2.2.1 hr nx fw bw u.2.2.2.2.1 u.2.2.2.2.2.1 u.2.2.2.2.2.2.1 u.2.2.2.2.2.2.2.1 u.2.2.2.2.2.2.2.2 ln lv cm) := hD
        exact hend (r1) u _ _ _ _ dX0_at_31 rfl (Or.inr (Or.inr ⟨j, hj, rfl, hw⟩)) hP hD hS
      · refine lv_bipush (v := nI 6) hx hb dX0_at_19 (by decide) ?_
        refine lv_goto (tgt := 28) hx hb dX0_at_21 (by decide) ?_
        refine cl_i0 (As := [.int (nI 6)]) (rest := []) (C := RX0) F (X_pushMove l D cI cZ h r mk ss mv ht hr nx fw bw kd fr tt st en ln lv cm 6 hmk hht hmv) (lw_V q91 q93 qs0 q20 q94) 1 rfl (by decide +kernel) ⟨Nat.le_of_ble_eq_true rfl, Nat.le_of_ble_eq_true rfl⟩ ⟨rfl, rfl⟩ ⟨Nat.zero_le _, Nat.zero_le _⟩ hK hP hD hS hA 0 0 rfl rfl hl.1 rfl (Nat.le_of_ble_eq_true rfl) dX0_at_28 (fun r1 u H locs hw hP hD hS => ?_)
        have hP : va_P D vwCl (xw cI h r u.1 u.2.1 u.2.2.1 u.2.2.2.1 hr nx fw bw u.2.2.2.2.1 u.2.2.2.2.2.1 u.2.2.2.2.2.2.1 u.2.2.2.2.2.2.2.1 u.2.2.2.2.2.2.2.2 ln lv cm) H := hP
        have hD : va_D A (xw cI h r u.1 u.2.1 u.2.2.1 u.2.2.2.1 hr nx fw bw u.2.2.2.2.1 u.2.2.2.2.2.1 u.2.2.2.2.2.2.1 u.2.2.2.2.2.2.2.1 u.2.2.2.2.2.2.2.2 ln lv cm) := hD
        exact hend (r1) u _ _ _ _ dX0_at_31 rfl (Or.inr (Or.inl ⟨at_m1 c2 c16, hw⟩)) hP hD hS
    · refine lv_bipush (v := (-2)) hx hb dX0_at_11 (by decide) ?_
      exact hend ((-2)) (mk, ss, mv, ht, kd, fr, tt, st, en) _ _ _ _ dX0_at_13 rfl (Or.inl (by first | exact ⟨fun q => by subst q; exact absurd c2 (by decide), inR_n0 (by decide) (fa_trans c2 (by decide)), rfl, rfl⟩ | exact ⟨fun q => by subst q; exact c8 (by decide), inR_nlt (by decide) c8, rfl, rfl⟩)) hP hD hS
set_option maxHeartbeats 4000000 in
set_option maxRecDepth 100000 in
theorem X_edge (l : Launch) (D : va_G) (cI cZ : ClassId) (h : Nat) (r : Nat → Nat) (mk ss mv ht hr nx : Nat) (fw bw kd fr tt st en ln lv cm : Nat → Nat) (lab ends : Int32) (t : Nat) (ht2 : t < 2) (hfw : ∀ j, j < 24 → fw j < 256) (hbw : ∀ j, j < 24 → bw j < 256) :
    ct_i l yX0_edge cX0_edge 7 .int (rmL 1 20) D (tyL cI cZ) [.ref h, .int lab, .int ends, .int (nI t)] (xw cI h r mk ss mv ht hr nx fw bw kd fr tt st en ln lv cm) ((Nat → Nat) × (Nat → Nat)) (fun x u => xEdge lab ends t fw bw x u) (fun u => xw cI h r mk ss mv ht hr nx u.1 u.2 kd fr tt st en ln lv cm) := by
  refine ct_i_of (by decide) (Nat.le_of_ble_eq_true rfl) ?_
  intro p e s m args below meth c A Q ls F hK hP hD hS hA hend hl
  have F : CallFix p m c cX0_edge 7 s args lw_all RX0 := F
  obtain ⟨hx, hb, hml, hown, hts⟩ := id F
  have hl : lv_has ls 7 [(0, .ref h), (1, .int lab), (2, .int ends), (3, .int (nI t))] := hl
  refine lv_iload_n hx hb dX0_edge_0 rfl (lv_at hl 1 rfl) ?_
  refine cs_i0 (As := [.int lab]) (rest := []) F (X_badLabel l D cI cZ (xw cI h r mk ss mv ht hr nx fw bw kd fr tt st en ln lv cm) lab) (lw_S q84 q85 q20 q86) 1 rfl (by decide +kernel) ⟨Nat.le_of_ble_eq_true rfl, Nat.le_of_ble_eq_true rfl⟩ ⟨rfl, rfl⟩ ⟨Nat.zero_le _, Nat.zero_le _⟩ hK hP hD hS hA hl.1 rfl (Nat.le_of_ble_eq_true rfl) dX0_edge_1 (fun r1 u H locs hw hP hD hS => ?_)
  have hP : va_P D vwCl (xw cI h r mk ss mv ht hr nx fw bw kd fr tt st en ln lv cm) H := hP
  have hD : va_D A (xw cI h r mk ss mv ht hr nx fw bw kd fr tt st en ln lv cm) := hD
  rcases hw with ⟨rfl, hw⟩ | ⟨rfl, hw⟩
  · obtain ⟨j, hj, rfl⟩ := hw
    refine xr_if_eq (tgt := 9) hx hb dX0_edge_4 (by decide) (by omega) (fun c4 => ?_) (fun c4 => ?_)
    · refine lv_iload_n hx hb dX0_edge_9 rfl (lv_at hl 2 rfl) ?_
      refine lv_if_lt (tgt := 19) hx hb dX0_edge_10 (by decide) (fun c10 => ?_) (fun c10 => ?_)
      · refine lv_bipush (v := (-2)) hx hb dX0_edge_19 (by decide) ?_
        exact hend ((-2)) (fw, bw) _ _ _ _ dX0_edge_21 rfl (Or.inr (Or.inl ⟨⟨j, hj, rfl⟩, by first | exact inR_n0 (by decide) c10 | exact inR_nle (by decide) c16, rfl, rfl⟩)) hP hD hS
      · refine lv_iload_n hx hb dX0_edge_13 rfl (lv_at hl 2 rfl) ?_
        refine lv_bipush (v := nI 63) hx hb dX0_edge_14 (by decide) ?_
        refine lv_icmp_le (tgt := 22) hx hb dX0_edge_16 (by decide) (fun c16 => ?_) (fun c16 => ?_)
        · obtain ⟨k, hk, rfl⟩ := inR_le (by decide) c10 c16
          have hf0 := hfw (j * 8 + k % 8) (by omega)
          have hb0 := hbw (j * 8 + k / 8) (by omega)
          have hcf := cb_lt _ (k / 8) hf0
          have hcb := cb_lt _ (k % 8) hb0
          refine lv_iload_n hx hb dX0_edge_22 rfl (lv_at hl 2 rfl) ?_
          refine lv_bipush (v := nI 7) hx hb dX0_edge_23 (by decide) ?_
          refine xr_iand hx hb dX0_edge_25 ?_
          rw [and7 k]
          refine lv_istore (lv' := [(4, .int (nI (k % 8))), (0, .ref h), (1, .int (nI j)), (2, .int (nI k)), (3, .int (nI t))]) hx hb dX0_edge_26 hl (by decide) rfl (fun ls hl => ?_)
          refine lv_iload_n hx hb dX0_edge_28 rfl (lv_at hl 3 rfl) ?_
          refine lv_iconst (v := nI 3) hx hb dX0_edge_29 (by decide) ?_
          refine xr_ishr hx hb dX0_edge_30 (by omega) (by omega) ?_
          rw [show k / 2 ^ 3 = k / 8 from rfl]
          refine lv_istore (lv' := [(5, .int (nI (k / 8))), (4, .int (nI (k % 8))), (0, .ref h), (1, .int (nI j)), (2, .int (nI k)), (3, .int (nI t))]) hx hb dX0_edge_31 hl (by decide) rfl (fun ls hl => ?_)
          refine lv_aload_n hx hb dX0_edge_33 rfl (lv_at hl 2 rfl) ?_
          refine va_get (D := D) (ci := 0) (v := .ref (r 0)) (C := RX0) (T := TX0) (N := 16) hx hb hts in_X0 hown hK hP 0 rfl rfl 0 (by decide) (hts _ q30) (fun _ h9 => h9) rfl dX0_edge_34 ?_
          refine lv_iload_n hx hb dX0_edge_37 rfl (lv_at hl 3 rfl) ?_
          refine lv_bipush (v := nI 8) hx hb dX0_edge_38 (by decide) ?_
          refine xr_imul hx hb dX0_edge_40 ?_
          refine lv_iload hx hb dX0_edge_41 (lv_at hl 1 rfl) ?_
          refine xr_iadd hx hb dX0_edge_43 ?_
          refine xr_iald (f := fw) hx hb hK hP 1 0 rfl rfl (by omega) (by decide) dX0_edge_44 ?_
          refine lv_iload hx hb dX0_edge_45 (lv_at hl 0 rfl) ?_
          refine xr_ishr hx hb dX0_edge_47 (by omega) (by omega) ?_
          refine lv_iconst (v := nI 1) hx hb dX0_edge_48 (by decide) ?_
          refine xr_iand hx hb dX0_edge_49 ?_
          refine lv_istore (lv' := [(6, .int (nI (((fw ((j * 8) + (k % 8))) / 2 ^ (k / 8)) &&& 1))), (5, .int (nI (k / 8))), (4, .int (nI (k % 8))), (0, .ref h), (1, .int (nI j)), (2, .int (nI k)), (3, .int (nI t))]) hx hb dX0_edge_50 hl (by decide) rfl (fun ls hl => ?_)
          refine lv_aload_n hx hb dX0_edge_52 rfl (lv_at hl 3 rfl) ?_
          refine va_get (D := D) (ci := 0) (v := .ref (r 0)) (C := RX0) (T := TX0) (N := 16) hx hb hts in_X0 hown hK hP 0 rfl rfl 0 (by decide) (hts _ q30) (fun _ h9 => h9) rfl dX0_edge_53 ?_
          refine lv_iload_n hx hb dX0_edge_56 rfl (lv_at hl 4 rfl) ?_
          refine lv_bipush (v := nI 8) hx hb dX0_edge_57 (by decide) ?_
          refine xr_imul hx hb dX0_edge_59 ?_
          refine lv_iload hx hb dX0_edge_60 (lv_at hl 2 rfl) ?_
          refine xr_iadd hx hb dX0_edge_62 ?_
          refine lv_dup2_11 hx hb dX0_edge_63 rfl rfl ?_
          refine xr_iald (f := fw) hx hb hK hP 1 0 rfl rfl (by omega) (by decide) dX0_edge_64 ?_
          refine lv_iconst (v := nI 1) hx hb dX0_edge_65 (by decide) ?_
          refine lv_iload hx hb dX0_edge_66 (lv_at hl 1 rfl) ?_
          refine xr_ishl1 hx hb dX0_edge_68 (by omega) ?_
          refine lv_iconst (v := -1) hx hb dX0_edge_69 (by decide) ?_
          refine lv_ixor hx hb dX0_edge_70 ?_
          refine lv_iand hx hb dX0_edge_71 ?_
          rw [cb_eq (k / 8) (by omega) _ hf0]
          refine xr_iast (f := fw) hx hb hK hP hD hS 1 0 rfl rfl (by omega) (by decide) dX0_edge_72 (fun H locs hP hD hS => ?_)
          have hP : va_P D vwCl (xw cI h r mk ss mv ht hr nx (va_up fw ((j * 8) + (k % 8)) (cb (fw ((j * 8) + (k % 8))) (k / 8))) bw kd fr tt st en ln lv cm) H := hP
          have hD : va_D A (xw cI h r mk ss mv ht hr nx (va_up fw ((j * 8) + (k % 8)) (cb (fw ((j * 8) + (k % 8))) (k / 8))) bw kd fr tt st en ln lv cm) := hD
          refine lv_aload_n hx hb dX0_edge_73 rfl (lv_at hl 3 rfl) ?_
          refine va_get (D := D) (ci := 0) (v := .ref (r 1)) (C := RX0) (T := TX0) (N := 16) hx hb hts in_X0 hown hK hP 0 rfl rfl 1 (by decide) (hts _ q31) (fun _ h9 => h9) rfl dX0_edge_74 ?_
          refine lv_iload_n hx hb dX0_edge_77 rfl (lv_at hl 4 rfl) ?_
          refine lv_bipush (v := nI 8) hx hb dX0_edge_78 (by decide) ?_
          refine xr_imul hx hb dX0_edge_80 ?_
          refine lv_iload hx hb dX0_edge_81 (lv_at hl 1 rfl) ?_
          refine xr_iadd hx hb dX0_edge_83 ?_
          refine lv_dup2_11 hx hb dX0_edge_84 rfl rfl ?_
          refine xr_iald (f := bw) hx hb hK hP 2 0 rfl rfl (by omega) (by decide) dX0_edge_85 ?_
          refine lv_iconst (v := nI 1) hx hb dX0_edge_86 (by decide) ?_
          refine lv_iload hx hb dX0_edge_87 (lv_at hl 2 rfl) ?_
          refine xr_ishl1 hx hb dX0_edge_89 (by omega) ?_
          refine lv_iconst (v := -1) hx hb dX0_edge_90 (by decide) ?_
          refine lv_ixor hx hb dX0_edge_91 ?_
          refine lv_iand hx hb dX0_edge_92 ?_
          rw [cb_eq (k % 8) (by omega) _ hb0]
          refine xr_iast (f := bw) hx hb hK hP hD hS 2 0 rfl rfl (by omega) (by decide) dX0_edge_93 (fun H locs hP hD hS => ?_)
          have hP : va_P D vwCl (xw cI h r mk ss mv ht hr nx (va_up fw ((j * 8) + (k % 8)) (cb (fw ((j * 8) + (k % 8))) (k / 8))) (va_up bw ((j * 8) + (k / 8)) (cb (bw ((j * 8) + (k / 8))) (k % 8))) kd fr tt st en ln lv cm) H := hP
          have hD : va_D A (xw cI h r mk ss mv ht hr nx (va_up fw ((j * 8) + (k % 8)) (cb (fw ((j * 8) + (k % 8))) (k / 8))) (va_up bw ((j * 8) + (k / 8)) (cb (bw ((j * 8) + (k / 8))) (k % 8))) kd fr tt st en ln lv cm) := hD
          refine lv_iload_n hx hb dX0_edge_94 rfl (lv_at hl 6 rfl) ?_
          refine xr_if_eq (tgt := 136) hx hb dX0_edge_95 (by decide) (by omega) (fun c95 => ?_) (fun c95 => ?_)
          · refine lv_iload hx hb dX0_edge_136 (lv_at hl 0 rfl) ?_
            exact hend (nI (((fw ((j * 8) + (k % 8))) / 2 ^ (k / 8)) &&& 1)) (va_up fw ((j * 8) + (k % 8)) (cb (fw ((j * 8) + (k % 8))) (k / 8)), va_up bw ((j * 8) + (k / 8)) (cb (bw ((j * 8) + (k / 8))) (k % 8))) _ _ _ _ dX0_edge_138 rfl (Or.inr (Or.inr ⟨j, k, hj, hk, rfl, rfl, rfl, by unfold sb; first | rw [if_pos c95, if_pos c95] | rw [if_neg c95, if_neg c95, bx_uu, bx_uu]⟩)) hP hD hS
          · refine lv_aload_n hx hb dX0_edge_98 rfl (lv_at hl 3 rfl) ?_
            refine va_get (D := D) (ci := 0) (v := .ref (r 0)) (C := RX0) (T := TX0) (N := 16) hx hb hts in_X0 hown hK hP 0 rfl rfl 0 (by decide) (hts _ q30) (fun _ h9 => h9) rfl dX0_edge_99 ?_
            refine lv_iload_n hx hb dX0_edge_102 rfl (lv_at hl 4 rfl) ?_
            refine lv_bipush (v := nI 8) hx hb dX0_edge_103 (by decide) ?_
            refine xr_imul hx hb dX0_edge_105 ?_
            refine lv_iload hx hb dX0_edge_106 (lv_at hl 2 rfl) ?_
            refine xr_iadd hx hb dX0_edge_108 ?_
            refine lv_dup2_11 hx hb dX0_edge_109 rfl rfl ?_
            refine xr_iald (f := va_up fw ((j * 8) + (k % 8)) (cb (fw ((j * 8) + (k % 8))) (k / 8))) hx hb hK hP 1 0 rfl rfl (by omega) (by decide) dX0_edge_110 ?_
            rw [up_s]
            refine lv_iconst (v := nI 1) hx hb dX0_edge_111 (by decide) ?_
            refine lv_iload hx hb dX0_edge_112 (lv_at hl 1 rfl) ?_
            refine xr_ishl1 hx hb dX0_edge_114 (by omega) ?_
            refine xr_ior hx hb dX0_edge_115 ?_
            refine xr_iast (f := va_up fw ((j * 8) + (k % 8)) (cb (fw ((j * 8) + (k % 8))) (k / 8))) hx hb hK hP hD hS 1 0 rfl rfl (by omega) (by decide) dX0_edge_116 (fun H locs hP hD hS => ?_)
            have hP : va_P D vwCl (xw cI h r mk ss mv ht hr nx (va_up (va_up fw ((j * 8) + (k % 8)) (cb (fw ((j * 8) + (k % 8))) (k / 8))) ((j * 8) + (k % 8)) ((cb (fw ((j * 8) + (k % 8))) (k / 8)) ||| (2 ^ (k / 8)))) (va_up bw ((j * 8) + (k / 8)) (cb (bw ((j * 8) + (k / 8))) (k % 8))) kd fr tt st en ln lv cm) H := hP
            have hD : va_D A (xw cI h r mk ss mv ht hr nx (va_up (va_up fw ((j * 8) + (k % 8)) (cb (fw ((j * 8) + (k % 8))) (k / 8))) ((j * 8) + (k % 8)) ((cb (fw ((j * 8) + (k % 8))) (k / 8)) ||| (2 ^ (k / 8)))) (va_up bw ((j * 8) + (k / 8)) (cb (bw ((j * 8) + (k / 8))) (k % 8))) kd fr tt st en ln lv cm) := hD
            refine lv_aload_n hx hb dX0_edge_117 rfl (lv_at hl 3 rfl) ?_
            refine va_get (D := D) (ci := 0) (v := .ref (r 1)) (C := RX0) (T := TX0) (N := 16) hx hb hts in_X0 hown hK hP 0 rfl rfl 1 (by decide) (hts _ q31) (fun _ h9 => h9) rfl dX0_edge_118 ?_
            refine lv_iload_n hx hb dX0_edge_121 rfl (lv_at hl 4 rfl) ?_
            refine lv_bipush (v := nI 8) hx hb dX0_edge_122 (by decide) ?_
            refine xr_imul hx hb dX0_edge_124 ?_
            refine lv_iload hx hb dX0_edge_125 (lv_at hl 1 rfl) ?_
            refine xr_iadd hx hb dX0_edge_127 ?_
            refine lv_dup2_11 hx hb dX0_edge_128 rfl rfl ?_
            refine xr_iald (f := va_up bw ((j * 8) + (k / 8)) (cb (bw ((j * 8) + (k / 8))) (k % 8))) hx hb hK hP 2 0 rfl rfl (by omega) (by decide) dX0_edge_129 ?_
            rw [up_s]
            refine lv_iconst (v := nI 1) hx hb dX0_edge_130 (by decide) ?_
            refine lv_iload hx hb dX0_edge_131 (lv_at hl 2 rfl) ?_
            refine xr_ishl1 hx hb dX0_edge_133 (by omega) ?_
            refine xr_ior hx hb dX0_edge_134 ?_
            refine xr_iast (f := va_up bw ((j * 8) + (k / 8)) (cb (bw ((j * 8) + (k / 8))) (k % 8))) hx hb hK hP hD hS 2 0 rfl rfl (by omega) (by decide) dX0_edge_135 (fun H locs hP hD hS => ?_)
            have hP : va_P D vwCl (xw cI h r mk ss mv ht hr nx (va_up (va_up fw ((j * 8) + (k % 8)) (cb (fw ((j * 8) + (k % 8))) (k / 8))) ((j * 8) + (k % 8)) ((cb (fw ((j * 8) + (k % 8))) (k / 8)) ||| (2 ^ (k / 8)))) (va_up (va_up bw ((j * 8) + (k / 8)) (cb (bw ((j * 8) + (k / 8))) (k % 8))) ((j * 8) + (k / 8)) ((cb (bw ((j * 8) + (k / 8))) (k % 8)) ||| (2 ^ (k % 8)))) kd fr tt st en ln lv cm) H := hP
            have hD : va_D A (xw cI h r mk ss mv ht hr nx (va_up (va_up fw ((j * 8) + (k % 8)) (cb (fw ((j * 8) + (k % 8))) (k / 8))) ((j * 8) + (k % 8)) ((cb (fw ((j * 8) + (k % 8))) (k / 8)) ||| (2 ^ (k / 8)))) (va_up (va_up bw ((j * 8) + (k / 8)) (cb (bw ((j * 8) + (k / 8))) (k % 8))) ((j * 8) + (k / 8)) ((cb (bw ((j * 8) + (k / 8))) (k % 8)) ||| (2 ^ (k % 8)))) kd fr tt st en ln lv cm) := hD
            refine lv_iload hx hb dX0_edge_136 (lv_at hl 0 rfl) ?_
            exact hend (nI (((fw ((j * 8) + (k % 8))) / 2 ^ (k / 8)) &&& 1)) (va_up (va_up fw ((j * 8) + (k % 8)) (cb (fw ((j * 8) + (k % 8))) (k / 8))) ((j * 8) + (k % 8)) ((cb (fw ((j * 8) + (k % 8))) (k / 8)) ||| (2 ^ (k / 8))), va_up (va_up bw ((j * 8) + (k / 8)) (cb (bw ((j * 8) + (k / 8))) (k % 8))) ((j * 8) + (k / 8)) ((cb (bw ((j * 8) + (k / 8))) (k % 8)) ||| (2 ^ (k % 8)))) _ _ _ _ dX0_edge_138 rfl (Or.inr (Or.inr ⟨j, k, hj, hk, rfl, rfl, rfl, by unfold sb; first | rw [if_pos c95, if_pos c95] | rw [if_neg c95, if_neg c95, bx_uu, bx_uu]⟩)) hP hD hS
        · refine lv_bipush (v := (-2)) hx hb dX0_edge_19 (by decide) ?_
          exact hend ((-2)) (fw, bw) _ _ _ _ dX0_edge_21 rfl (Or.inr (Or.inl ⟨⟨j, hj, rfl⟩, by first | exact inR_n0 (by decide) c10 | exact inR_nle (by decide) c16, rfl, rfl⟩)) hP hD hS
    · omega
  · refine xr_if_eq (tgt := 9) hx hb dX0_edge_4 (by decide) (by omega) (fun c4 => ?_) (fun c4 => ?_)
    · omega
    · refine lv_iconst (v := (-1)) hx hb dX0_edge_7 (by decide) ?_
      exact hend ((-1)) (fw, bw) _ _ _ _ dX0_edge_8 rfl (Or.inl ⟨hw, rfl, rfl⟩) hP hD hS
end
section
/-! tables of least lengths -/
def IM (tb : Nat → Nat) (o : Nat) (R : Nat → Nat → Nat → Prop) : Prop :=
  ∀ a b, a < 8 → b < 8 → tb (o + a * 8 + b) ≤ 100000 ∧ (tb (o + a * 8 + b) < 100000 → R a (tb (o + a * 8 + b)) b) ∧ ∀ d, R a d b → tb (o + a * 8 + b) ≤ d
theorem IM.le {tb : Nat → Nat} {o : Nat} {R : Nat → Nat → Nat → Prop} (h : IM tb o R) {p : Nat} (hp : p < 64) : tb (o + p) ≤ 100000 := by
  have := (h (p / 8) (p % 8) (by omega) (by omega)).1
  rw [show o + p / 8 * 8 + p % 8 = o + p by omega] at this
  exact this
theorem IM.to {tb tb' : Nat → Nat} {o : Nat} {R : Nat → Nat → Nat → Prop} (h : IM tb o R) (e : ∀ p, p < 64 → tb' (o + p) = tb (o + p)) : IM tb' o R := by
  intro a b ha hb
  have e1 := e (a * 8 + b) (by omega)
  rw [← Nat.add_assoc] at e1
  rw [e1]
  exact h a b ha hb
def stR (R : Nat → Nat → Nat → Prop) (a d b : Nat) : Prop := ∀ Z : Nat → Nat → Prop, Z a 0 → (∀ c d w b, Z c d → R c w b → Z b (d + w)) → Z b d
theorem stR_rf (R : Nat → Nat → Nat → Prop) (a : Nat) : stR R a 0 a := fun _ h _ => h
theorem stR_1 {R : Nat → Nat → Nat → Prop} {a d b : Nat} (h : R a d b) : stR R a d b := fun Z h0 hZ => by
  have := hZ a 0 d b h0 h
  rw [Nat.zero_add] at this
  exact this
theorem stR_tr {R : Nat → Nat → Nat → Prop} {a d c d2 b : Nat} (h : stR R a d c) (h2 : stR R c d2 b) : stR R a (d + d2) b := by
  refine h2 (fun b d2 => stR R a (d + d2) b) h ?_
  intro c d2 w b h3 hr Z h0 hZ
  have := hZ c (d + d2) w b (h3 Z h0 hZ) hr
  rw [Nat.add_assoc] at this
  exact this
def jm (x : Nat → Nat) : Nat → Nat
  | 0 => 100000
  | m + 1 => min (jm x m) (x m)
theorem jm_le (x : Nat → Nat) : ∀ n, jm x n ≤ 100000
  | 0 => Nat.le_refl _
  | n + 1 => by
    have := jm_le x n
    unfold jm
    omega
theorem jm_low (x : Nat → Nat) {m : Nat} : ∀ n, m < n → jm x n ≤ x m
  | 0, h => absurd h (Nat.not_lt_zero m)
  | n + 1, h => by
    unfold jm
    by_cases q : m = n
    · subst q
      omega
    · have := jm_low x (m := m) n (by omega)
      omega
theorem jm_at (x : Nat → Nat) : ∀ n, jm x n < 100000 → ∃ m, m < n ∧ jm x n = x m
  | 0, h => absurd h (by unfold jm; omega)
  | n + 1, h => by
    unfold jm at h ⊢
    by_cases q : jm x n ≤ x n
    · rw [Nat.min_eq_left q] at h ⊢
      obtain ⟨m, h1, h2⟩ := jm_at x n h
      exact ⟨m, by omega, h2⟩
    · rw [Nat.min_eq_right (by omega)]
      exact ⟨n, by omega, rfl⟩
def seR (R S : Nat → Nat → Nat → Prop) (a d b : Nat) : Prop := ∃ c d1 d2, R a d1 c ∧ S c d2 b ∧ d = d1 + d2
theorem IM_join {tb tb' : Nat → Nat} {o : Nat} {R S : Nat → Nat → Nat → Prop} (hR : IM tb o R) (hS : IM tb (o + 64) S) (h8 : ∀ a d b, a < 8 → R a d b → b < 8)
    (e : ∀ p, p < 64 → tb' (o + p) = jm (fun m => tb (o + p / 8 * 8 + m) + tb (o + 64 + m * 8 + p % 8)) 8) : IM tb' o (seR R S) := by
  intro a b ha hb
  have e1 := e (a * 8 + b) (by omega)
  rw [← Nat.add_assoc, show (a * 8 + b) / 8 = a by omega, show (a * 8 + b) % 8 = b by omega] at e1
  rw [e1]
  refine ⟨jm_le _ 8, ?_, ?_⟩
  · intro hlt
    obtain ⟨m, hm, e2⟩ := jm_at _ 8 hlt
    rw [e2] at hlt ⊢
    have h1 := hR a m ha hm
    have h2 := hS m b hm hb
    exact ⟨m, _, _, h1.2.1 (by omega), h2.2.1 (by omega), rfl⟩
  · rintro d ⟨c, d1, d2, r1, r2, e2⟩
    have hc := h8 a d1 c ha r1
    have h1 := (hR a c ha hc).2.2 d1 r1
    have h2 := (hS c b hc hb).2.2 d2 r2
    have h3 := jm_low (fun m => tb (o + a * 8 + m) + tb (o + 64 + m * 8 + b)) 8 hc
    omega
theorem IM_alt {tb tb' : Nat → Nat} {o : Nat} {R S : Nat → Nat → Nat → Prop} (hR : IM tb o R) (hS : IM tb (o + 64) S)
    (e : ∀ p, p < 64 → tb' (o + p) = min (tb (o + p)) (tb (o + 64 + p))) : IM tb' o (fun a d b => R a d b ∨ S a d b) := by
  intro a b ha hb
  have e1 := e (a * 8 + b) (by omega)
  rw [← Nat.add_assoc, ← Nat.add_assoc] at e1
  have h1 := hR a b ha hb
  have h2 := hS a b ha hb
  rw [e1]
  refine ⟨by omega, ?_, ?_⟩
  · intro hlt
    by_cases q : tb (o + a * 8 + b) ≤ tb (o + 64 + a * 8 + b)
    · rw [Nat.min_eq_left q] at hlt ⊢
      exact Or.inl (h1.2.1 hlt)
    · rw [Nat.min_eq_right (by omega)] at hlt ⊢
      exact Or.inr (h2.2.1 hlt)
  · intro d hd
    rcases hd with hd | hd
    · have := h1.2.2 d hd
      omega
    · have := h2.2.2 d hd
      omega
/-- closing: what holds at the phase m -/
def FW (tb : Nat → Nat) (o m : Nat) (R : Nat → Nat → Nat → Prop) : Prop :=
  ∀ a b, a < 8 → b < 8 → tb (o + a * 8 + b) ≤ 100000 ∧ (tb (o + a * 8 + b) < 100000 → stR R a (tb (o + a * 8 + b)) b) ∧ tb (o + a * 8 + a) = 0 ∧ (∀ d, R a d b → tb (o + a * 8 + b) ≤ d) ∧ ∀ k, k < m → tb (o + a * 8 + b) ≤ tb (o + a * 8 + k) + tb (o + k * 8 + b)
theorem FW_0 {tb tb' : Nat → Nat} {o : Nat} {R : Nat → Nat → Nat → Prop} (h : IM tb o R) (e : ∀ a b, a < 8 → b < 8 → tb' (o + a * 8 + b) = if a = b then 0 else tb (o + a * 8 + b)) : FW tb' o 0 R := by
  intro a b ha hb
  have h1 := h a b ha hb
  refine ⟨?_, ?_, ?_, ?_, fun k hk => absurd hk (Nat.not_lt_zero k)⟩
  · rw [e a b ha hb]
    split
    · omega
    · exact h1.1
  · rw [e a b ha hb]
    split
    · rename_i q
      subst q
      intro _
      exact stR_rf R a
    · exact fun q => stR_1 (h1.2.1 q)
  · rw [e a a ha ha, if_pos rfl]
  · intro d hd
    rw [e a b ha hb]
    split
    · omega
    · exact h1.2.2 d hd
theorem FW_next {tb tb' : Nat → Nat} {o m : Nat} {R : Nat → Nat → Nat → Prop} (h : FW tb o m R) (hm : m < 8) (e : ∀ p, p < 64 → tb' (o + p) = min (tb (o + p)) (tb (o + p / 8 * 8 + m) + tb (o + m * 8 + p % 8))) : FW tb' o (m + 1) R := by
  have e : ∀ a b, a < 8 → b < 8 → tb' (o + a * 8 + b) = min (tb (o + a * 8 + b)) (tb (o + a * 8 + m) + tb (o + m * 8 + b)) := by
    intro a b ha hb
    have e1 := e (a * 8 + b) (by omega)
    rw [← Nat.add_assoc, show (a * 8 + b) / 8 = a by omega, show (a * 8 + b) % 8 = b by omega] at e1
    exact e1
  intro a b ha hb
  have h1 := h a b ha hb
  have h2 := h a m ha hm
  have h3 := h m b hm hb
  have h4 := h m m hm hm
  refine ⟨?_, ?_, ?_, ?_, ?_⟩
  · rw [e a b ha hb]
    omega
  · rw [e a b ha hb]
    intro hlt
    by_cases q : tb (o + a * 8 + b) ≤ tb (o + a * 8 + m) + tb (o + m * 8 + b)
    · rw [Nat.min_eq_left q] at hlt ⊢
      exact h1.2.1 hlt
    · rw [Nat.min_eq_right (by omega)] at hlt ⊢
      exact stR_tr (h2.2.1 (by omega)) (h3.2.1 (by omega))
  · rw [e a a ha ha]
    have := h1.2.2.1
    omega
  · intro d hd
    rw [e a b ha hb]
    have := h1.2.2.2.1 d hd
    omega
  · intro k hk
    have e1 := e a b ha hb
    by_cases q : k = m
    · subst q
      have e2 := e a k ha hm
      have e3 := e k b hm hb
      have h5 := h4.2.2.1
      omega
    · have e2 := e a k ha (by omega)
      have e3 := e k b (by omega) hb
      have g1 := h1.2.2.2.2 k (by omega)
      have g2 := h2.2.2.2.2 k (by omega)
      have g3 := h3.2.2.2.2 k (by omega)
      omega
theorem FW_8 {tb : Nat → Nat} {o : Nat} {R : Nat → Nat → Nat → Prop} (h : FW tb o 8 R) (h8 : ∀ a d b, a < 8 → R a d b → b < 8) : IM tb o (stR R) := by
  intro a b ha hb
  have h1 := h a b ha hb
  refine ⟨h1.1, h1.2.1, ?_⟩
  intro d hd
  have := hd (fun c d => c < 8 ∧ tb (o + a * 8 + c) ≤ d) ⟨ha, by have := h1.2.2.1; omega⟩ (by
    intro c d w b ⟨hc, hZ⟩ hr
    have hb := h8 c w b hc hr
    refine ⟨hb, ?_⟩
    have g1 := (h c b hc hb).2.2.2.1 w hr
    have g2 := (h a b ha hb).2.2.2.2 c hc
    omega)
  exact this.2
/-- the stack of expressions after i steps -/
def knd (k nb : Nat) : Nat := if k = 0 then nb - 1 else if k = 1 then 3 + (nb - 1) else if nb = 0 then 6 else 7 + (nb - 1)
def stN (kn : Nat → Nat) : Nat → Nat
  | 0 => 0
  | i + 1 => if kn i < 3 then stN kn i + 1 else if kn i < 5 then stN kn i - 1 else stN kn i
def stE (kn nb : Nat → Nat) : Nat → Nat → Ex
  | 0 => fun _ => ex1 6
  | i + 1 => if kn i < 3 then va_up (stE kn nb i) (stN kn i) (ex1 (knd (kn i) (nb i)))
      else if kn i = 3 then va_up (stE kn nb i) (stN kn i - 2) (exS (stE kn nb i (stN kn i - 2)) (stE kn nb i (stN kn i - 1)))
      else if kn i = 4 then va_up (stE kn nb i) (stN kn i - 2) (exA (stE kn nb i (stN kn i - 2)) (stE kn nb i (stN kn i - 1)))
      else va_up (stE kn nb i) (stN kn i - 1) (exK (stE kn nb i (stN kn i - 1)))
theorem stN_cong {kn kn' : Nat → Nat} : ∀ i, (∀ j, j < i → kn' j = kn j) → stN kn' i = stN kn i
  | 0, _ => rfl
  | i + 1, h => by
    have e1 := stN_cong i (fun j hj => h j (by omega))
    unfold stN
    rw [h i (by omega), e1]
theorem stE_cong {kn kn' nb nb' : Nat → Nat} : ∀ i, (∀ j, j < i → kn' j = kn j) → (∀ j, j < i → nb' j = nb j) → stE kn' nb' i = stE kn nb i
  | 0, _, _ => rfl
  | i + 1, h, g => by
    have e1 := stN_cong i (fun j hj => h j (by omega))
    have e2 := stE_cong i (fun j hj => h j (by omega)) (fun j hj => g j (by omega))
    unfold stE
    rw [h i (by omega), g i (by omega), e1, e2]
def LG (kn nb : Nat → Nat) (mk : Nat) : Prop :=
  ∀ i, i < mk → (kn i < 3 ∧ stN kn i < 6 ∧ nb i ≤ 8 ∧ (kn i < 2 → 1 ≤ nb i ∧ nb i ≤ 3)) ∨ ((kn i = 3 ∨ kn i = 4) ∧ 2 ≤ stN kn i) ∨ (kn i = 5 ∧ 1 ≤ stN kn i)
theorem LG.le {kn nb : Nat → Nat} {mk : Nat} (h : LG kn nb mk) : ∀ i, i ≤ mk → stN kn i ≤ 6
  | 0, _ => by unfold stN; omega
  | i + 1, hi => by
    have h1 := LG.le h i (by omega)
    have h2 := h i (by omega)
    unfold stN
    split
    · omega
    · split
      · omega
      · omega
def E8 (G : GR) (E : Ex) : Prop := ∀ a d b, a < 8 → E G a d b → b < 8
theorem E8_1 {G : GR} (hG : GB G) (k : Nat) : E8 G (ex1 k) := fun _ _ _ ha h => Sk_8 hG h ha
theorem E8_S {G : GR} {E F : Ex} (hE : E8 G E) (hF : E8 G F) : E8 G (exS E F) := by
  rintro a d b ha ⟨c, d1, d2, h1, h2, -⟩
  exact hF _ _ _ (hE _ _ _ ha h1) h2
theorem E8_A {G : GR} {E F : Ex} (hE : E8 G E) (hF : E8 G F) : E8 G (exA E F) := by
  intro a d b ha h
  rcases h with h | h
  · exact hE _ _ _ ha h
  · exact hF _ _ _ ha h
theorem E8_K {G : GR} {E : Ex} (hE : E8 G E) : E8 G (exK E) := fun _ _ _ ha h => h (fun b _ => b < 8) ha (fun _ _ _ _ hc hr => hE _ _ _ hc hr)
theorem E8_st {G : GR} (hG : GB G) (kn nb : Nat → Nat) : ∀ i h, E8 G (stE kn nb i h)
  | 0, h => by
    unfold stE
    exact E8_1 hG 6
  | i + 1, h => by
    have ih := E8_st hG kn nb i
    have up : ∀ {x : Nat} {E : Ex}, E8 G E → E8 G (va_up (stE kn nb i) x E h) := by
      intro x E hE
      by_cases q : h = x
      · rw [q, up_s]
        exact hE
      · rw [up_n q]
        exact ih h
    unfold stE
    split
    · exact up (E8_1 hG _)
    · split
      · exact up (E8_S (ih _) (ih _))
      · split
        · exact up (E8_A (ih _) (ih _))
        · exact up (E8_K (ih _))
def MGR (G : GR) (ed : Nat → Nat) : Prop := GB G ∧ (∀ j, j < 192 → ed j ≤ 1) ∧ ∀ l a b, l < 3 → a < 8 → b < 8 → (G l a b ↔ ed (l * 64 + a + 8 * b) = 1)
def MOK (G : GR) (mk hg : Nat) (ed kn nb : Nat → Nat) : Prop := MGR G ed ∧ mk ≤ 14 ∧ hg = stN kn mk ∧ LG kn nb mk
/-- one entry of a new table -/
def mSg (G : GR) (k nb a b v : Nat) : Prop := v ≤ 100000 ∧ (v < 100000 → Sk G (knd k nb) a v b) ∧ ∀ d, Sk G (knd k nb) a d b → v ≤ d
theorem sg_f {G : GR} {k nb a b : Nat} (h : ∀ d, ¬ Sk G (knd k nb) a d b) : mSg G k nb a b 100000 := ⟨Nat.le_refl _, fun q => absurd q (by omega), fun d hd => absurd hd (h d)⟩
theorem sk_0 {G : GR} {q a d b : Nat} (hq : q < 3) : Sk G (knd 0 (q + 1)) a d b ↔ G q a b ∧ d = 1 := by
  have e : knd 0 (q + 1) = q := rfl
  rw [e]
  constructor
  · intro h
    rcases h with h | h | h | h
    · omega
    · omega
    · exact h.2
    · omega
  · intro h
    exact Or.inr (Or.inr (Or.inl ⟨hq, h⟩))
theorem sk_1 {G : GR} {q a d b : Nat} (hq : q < 3) : Sk G (knd 1 (q + 1)) a d b ↔ G q b a ∧ d = 1 := by
  have e : knd 1 (q + 1) = 3 + q := rfl
  rw [e]
  constructor
  · intro h
    rcases h with h | h | h | h
    · omega
    · omega
    · omega
    · rw [show 3 + q - 3 = q by omega] at h
      exact h.2.2
  · intro h
    exact Or.inr (Or.inr (Or.inr ⟨by omega, by omega, by rw [show 3 + q - 3 = q by omega]; exact h⟩))
theorem sk_2 {G : GR} {nb a d b : Nat} : Sk G (knd 2 nb) a d b ↔ (a = b ∧ (nb = 0 ∨ nb = a + 1)) ∧ d = 0 := by
  have e : knd 2 nb = if nb = 0 then 6 else 7 + (nb - 1) := rfl
  rw [e]
  by_cases q : nb = 0
  · rw [if_pos q]
    constructor
    · intro h
      obtain ⟨h1, h2⟩ := Sk6 h
      exact ⟨⟨h1.symm, Or.inl q⟩, h2⟩
    · rintro ⟨⟨h1, -⟩, h2⟩
      subst h1
      subst h2
      exact Sk6i G a
  · rw [if_neg q]
    constructor
    · intro h
      rcases h with h | h | h | h
      · omega
      · omega
      · omega
      · omega
    · rintro ⟨⟨h1, h2⟩, h3⟩
      exact Or.inr (Or.inl ⟨by omega, by omega, h3⟩)
theorem sg_0t {G : GR} {q a b : Nat} (hq : q < 3) (h : G q a b) : mSg G 0 (q + 1) a b 1 := ⟨by omega, fun _ => (sk_0 hq).mpr ⟨h, rfl⟩, fun d hd => by have := (sk_0 hq).mp hd; omega⟩
theorem sg_1t {G : GR} {q a b : Nat} (hq : q < 3) (h : G q b a) : mSg G 1 (q + 1) a b 1 := ⟨by omega, fun _ => (sk_1 hq).mpr ⟨h, rfl⟩, fun d hd => by have := (sk_1 hq).mp hd; omega⟩
theorem sg_2t {G : GR} {nb a b : Nat} (h : a = b ∧ (nb = 0 ∨ nb = a + 1)) : mSg G 2 nb a b 0 := ⟨by omega, fun _ => sk_2.mpr ⟨h, rfl⟩, fun d _ => Nat.zero_le d⟩
theorem sg_0f {G : GR} {q a b : Nat} (hq : q < 3) (h : ¬ G q a b) : mSg G 0 (q + 1) a b 100000 := sg_f fun _ hd => h ((sk_0 hq).mp hd).1
theorem sg_1f {G : GR} {q a b : Nat} (hq : q < 3) (h : ¬ G q b a) : mSg G 1 (q + 1) a b 100000 := sg_f fun _ hd => h ((sk_1 hq).mp hd).1
theorem sg_2f {G : GR} {nb a b : Nat} (h : ¬ (a = b ∧ (nb = 0 ∨ nb = a + 1))) : mSg G 2 nb a b 100000 := sg_f fun _ hd => h (sk_2.mp hd).1
theorem IM_1 {G : GR} {tb : Nat → Nat} {o k nb : Nat} (h : ∀ p, p < 64 → mSg G k nb (p / 8) (p % 8) (tb (o + p))) : IM tb o (ex1 (knd k nb) G) := by
  intro a b ha hb
  have h1 := h (a * 8 + b) (by omega)
  rw [← Nat.add_assoc, show (a * 8 + b) / 8 = a by omega, show (a * 8 + b) % 8 = b by omega] at h1
  exact h1
/-- the top's table against the least lengths -/
theorem IM_mn {tb : Nat → Nat} {o : Nat} {R : Nat → Nat → Nat → Prop} (h : IM tb o R) {a b : Nat} (ha : a < 8) (hb : b < 8) (hl : mn (fun d => R a d b) ≤ 224) : min 100000 (tb (o + a * 8 + b)) = if mn (fun d => R a d b) = 0 then 100000 else mn (fun d => R a d b) - 1 := by
  obtain ⟨h1, h2, h3⟩ := h a b ha hb
  by_cases q : mn (fun d => R a d b) = 0
  · rw [if_pos q]
    have q2 := mn_zero.mp q
    have : ¬ tb (o + a * 8 + b) < 100000 := fun z => q2 _ (h2 z)
    omega
  · rw [if_neg q]
    obtain ⟨k, hk⟩ : ∃ k, mn (fun d => R a d b) = k + 1 := ⟨mn (fun d => R a d b) - 1, by omega⟩
    have q2 := mn_succ.mp hk
    have q3 := h3 k q2.1
    have q4 := q2.2 _ (h2 (by omega))
    omega
/-- small numbers less one -/
theorem zz_mp (n : Nat) : nI n - 1 + Int32.ofInt 1 = nI n := by
  rw [show Int32.ofInt 1 = (1 : Int32) from rfl]
  rw [Int32.sub_add_cancel]
theorem zz_m2 {n : Nat} (h : 2 ≤ n) : nI n - 1 + Int32.ofInt (-1) = nI (n - 2) := by
  obtain ⟨k, rfl⟩ : ∃ k, n = k + 2 := ⟨n - 2, by omega⟩
  rw [show k + 2 = (k + 1) + 1 from rfl, nI_pred, show k + 1 + 1 - 2 = k by omega]
  exact pk_m1 k
theorem zz_1p {n : Nat} (h : 1 ≤ n) : nI n - 1 = nI (n - 1) := by
  obtain ⟨k, rfl⟩ : ∃ k, n = k + 1 := ⟨n - 1, by omega⟩
  rw [nI_pred]
  rfl
theorem zz_mn1 {n : Nat} (h : n < 2 ^ 31) : nI n - 1 = -1 ↔ n = 0 := by
  rw [fa_eq, zz_mI h, show (-1 : Int32).toInt = -1 from rfl]
  omega
theorem zz_mna {n a : Nat} (h : n < 2 ^ 31) (ha : a < 2 ^ 31) : nI n - 1 = nI a ↔ n = a + 1 := by
  rw [fa_eq, zz_mI h, nI_toInt ha]
  omega
end
section
/-! PathAlgebraModel: leaves and steps -/
set_option maxHeartbeats 4000000 in
set_option maxRecDepth 100000 in
theorem M_least (l : Launch) (D : va_G) (cI cZ : ClassId) (w0 : va_W) (h a b : Nat) (ha : a < 2 ^ 31) (hbb : b < 2 ^ 31) :
    ct_i l yX1_least cX1_least 3 .int (rmL 0 0) D (tyL cI cZ) [.ref h, .int (nI a), .int (nI b)] (w0) (Unit) (fun x _ => x = nI (min a b)) (fun _ => w0) := by
  refine ct_i_of (by decide) (Nat.le_of_ble_eq_true rfl) ?_
  intro p e s m args below meth c A Q ls F hK hP hD hS hA hend hl
  have F : CallFix p m c cX1_least 3 s args lw_all RX1 := F
  obtain ⟨hx, hb, hml, hown, hts⟩ := id F
  have hl : lv_has ls 3 [(0, .ref h), (1, .int (nI a)), (2, .int (nI b))] := hl
  refine lv_iload_n hx hb dX1_least_0 rfl (lv_at hl 1 rfl) ?_
  refine lv_iload_n hx hb dX1_least_1 rfl (lv_at hl 2 rfl) ?_
  refine xr_icmp_ge (tgt := 9) hx hb dX1_least_2 (by decide) ha hbb (fun c2 => ?_) (fun c2 => ?_)
  · refine lv_iload_n hx hb dX1_least_9 rfl (lv_at hl 2 rfl) ?_
    exact hend (nI b) () _ _ _ _ dX1_least_10 rfl (by rw [Nat.min_eq_right (by omega)]) hP hD hS
  · refine lv_iload_n hx hb dX1_least_5 rfl (lv_at hl 1 rfl) ?_
    refine lv_goto (tgt := 10) hx hb dX1_least_6 (by decide) ?_
    exact hend (nI a) () _ _ _ _ dX1_least_10 rfl (by rw [Nat.min_eq_left (by omega)]) hP hD hS
set_option maxHeartbeats 4000000 in
set_option maxRecDepth 100000 in
theorem M_bad (l : Launch) (D : va_G) (cI cZ : ClassId) (w0 : va_W) (h : Nat) (n : Int32) :
    ct_i l yX1_bad cX1_bad 2 .boolean (rmL 0 0) D (tyL cI cZ) [.ref h, .int n] (w0) (Unit) (fun x _ => (x = nI 0 ∧ inR n 8) ∨ (x = nI 1 ∧ ¬ inR n 8)) (fun _ => w0) := by
  refine ct_i_of (by decide) (Nat.le_of_ble_eq_true rfl) ?_
  intro p e s m args below meth c A Q ls F hK hP hD hS hA hend hl
  have F : CallFix p m c cX1_bad 2 s args lw_all RX1 := F
  obtain ⟨hx, hb, hml, hown, hts⟩ := id F
  have hl : lv_has ls 2 [(0, .ref h), (1, .int n)] := hl
  refine lv_iload_n hx hb dX1_bad_0 rfl (lv_at hl 1 rfl) ?_
  refine lv_if_lt (tgt := 10) hx hb dX1_bad_1 (by decide) (fun c1 => ?_) (fun c1 => ?_)
  · refine lv_iconst (v := nI 1) hx hb dX1_bad_10 (by decide) ?_
    refine lv_goto (tgt := 15) hx hb dX1_bad_11 (by decide) ?_
    exact hend (nI 1) () _ _ _ _ dX1_bad_15 rfl (Or.inr ⟨rfl, by first | exact inR_n0 (by decide) c1 | exact inR_nle (by decide) c7⟩) hP hD hS
  · refine lv_iload_n hx hb dX1_bad_4 rfl (lv_at hl 1 rfl) ?_
    refine lv_bipush (v := nI 7) hx hb dX1_bad_5 (by decide) ?_
    refine lv_icmp_le (tgt := 14) hx hb dX1_bad_7 (by decide) (fun c7 => ?_) (fun c7 => ?_)
    · refine lv_iconst (v := nI 0) hx hb dX1_bad_14 (by decide) ?_
      exact hend (nI 0) () _ _ _ _ dX1_bad_15 rfl (Or.inl ⟨rfl, inR_le (by decide) c1 c7⟩) hP hD hS
    · refine lv_iconst (v := nI 1) hx hb dX1_bad_10 (by decide) ?_
      refine lv_goto (tgt := 15) hx hb dX1_bad_11 (by decide) ?_
      exact hend (nI 1) () _ _ _ _ dX1_bad_15 rfl (Or.inr ⟨rfl, by first | exact inR_n0 (by decide) c1 | exact inR_nle (by decide) c7⟩) hP hD hS
set_option maxHeartbeats 4000000 in
set_option maxRecDepth 100000 in
theorem M_clear (l : Launch) (D : va_G) (cI cZ : ClassId) (h : Nat) (r : Nat → Nat) (mk hg : Nat) (ed kn nb tb : Nat → Nat) :
    ct_v l yX1_clear cX1_clear 1 (rmL 0 0) D (tyL cI cZ) [.ref h] (mw cI cZ h r mk hg ed kn nb tb) (Unit) (fun _ => True) (fun _ => mw cI cZ h r 0 0 ed kn nb tb) := by
  refine ct_v_of (by decide) (Nat.le_of_ble_eq_true rfl) ?_
  intro p e s m args below meth c A Q ls F hK hP hD hS hA hend hl
  have F : CallFix p m c cX1_clear 1 s args lw_all RX1 := F
  obtain ⟨hx, hb, hml, hown, hts⟩ := id F
  have hl : lv_has ls 1 [(0, .ref h)] := hl
  refine lv_aload_n hx hb dX1_clear_0 rfl (lv_at hl 0 rfl) ?_
  refine lv_iconst (v := nI 0) hx hb dX1_clear_1 (by decide) ?_
  refine va_put (D := D) (ci := 1) (v := .int (nI 0)) (ty := .int) (C := RX1) (T := TX1) (N := 6) hx hb hts in_X1 tyX1 tyX1_ok nmX1 hown hK hP hD hS 0 rfl rfl 1 (by decide) (hts _ q197) (fun _ h9 => h9) rfl (by decide +kernel) rfl rfl (Nat.le_of_ble_eq_true rfl) dX1_clear_2 (fun H locs hP hD hS => ?_)
  have hP : va_P D vwCl (mw cI cZ h r 0 hg ed kn nb tb) H := hP
  have hD : va_D A (mw cI cZ h r 0 hg ed kn nb tb) := hD
  refine lv_aload_n hx hb dX1_clear_5 rfl (lv_at hl 0 rfl) ?_
  refine lv_iconst (v := nI 0) hx hb dX1_clear_6 (by decide) ?_
  refine va_put (D := D) (ci := 1) (v := .int (nI 0)) (ty := .int) (C := RX1) (T := TX1) (N := 6) hx hb hts in_X1 tyX1 tyX1_ok nmX1 hown hK hP hD hS 0 rfl rfl 4 (by decide) (hts _ q200) (fun _ h9 => h9) rfl (by decide +kernel) rfl rfl (Nat.le_of_ble_eq_true rfl) dX1_clear_7 (fun H locs hP hD hS => ?_)
  have hP : va_P D vwCl (mw cI cZ h r 0 0 ed kn nb tb) H := hP
  have hD : va_D A (mw cI cZ h r 0 0 ed kn nb tb) := hD
  exact hend () _ _ _ _ dX1_clear_10 trivial hP hD hS
set_option maxHeartbeats 4000000 in
set_option maxRecDepth 100000 in
theorem M_steps (l : Launch) (D : va_G) (cI cZ : ClassId) (h : Nat) (r : Nat → Nat) (mk hg : Nat) (ed kn nb tb : Nat → Nat) :
    ct_i l yX1_steps cX1_steps 1 .int (rmL 0 0) D (tyL cI cZ) [.ref h] (mw cI cZ h r mk hg ed kn nb tb) (Unit) (fun x _ => x = nI mk) (fun _ => mw cI cZ h r mk hg ed kn nb tb) := by
  refine ct_i_of (by decide) (Nat.le_of_ble_eq_true rfl) ?_
  intro p e s m args below meth c A Q ls F hK hP hD hS hA hend hl
  have F : CallFix p m c cX1_steps 1 s args lw_all RX1 := F
  obtain ⟨hx, hb, hml, hown, hts⟩ := id F
  have hl : lv_has ls 1 [(0, .ref h)] := hl
  refine lv_aload_n hx hb dX1_steps_0 rfl (lv_at hl 0 rfl) ?_
  refine va_get (D := D) (ci := 1) (v := .int (nI mk)) (C := RX1) (T := TX1) (N := 6) hx hb hts in_X1 hown hK hP 0 rfl rfl 1 (by decide) (hts _ q197) (fun _ h9 => h9) rfl dX1_steps_1 ?_
  exact hend (nI mk) () _ _ _ _ dX1_steps_4 rfl rfl hP hD hS
def mEdge (lab ends : Int32) (t : Nat) (ed : Nat → Nat) (x : Int32) (u : Nat → Nat) : Prop :=
  (¬ inR lab 3 ∧ x = -1 ∧ u = ed) ∨ (inR lab 3 ∧ ¬ inR ends 64 ∧ x = -2 ∧ u = ed) ∨ (∃ l e, l < 3 ∧ e < 64 ∧ lab = nI l ∧ ends = nI e ∧ x = nI (if ed (l * 64 + e) = 0 then 0 else 1) ∧ u = va_up ed (l * 64 + e) t)
set_option maxHeartbeats 4000000 in
set_option maxRecDepth 100000 in
theorem M_edge (l : Launch) (D : va_G) (cI cZ : ClassId) (h : Nat) (r : Nat → Nat) (mk hg : Nat) (ed kn nb tb : Nat → Nat) (lab ends : Int32) (t : Nat) (ht2 : t < 2) (hed : ∀ j, j < 192 → ed j ≤ 1) :
    ct_i l yX1_edge cX1_edge 5 .int (rmL 0 0) D (tyL cI cZ) [.ref h, .int lab, .int ends, .int (nI t)] (mw cI cZ h r mk hg ed kn nb tb) (Nat → Nat) (fun x u => mEdge lab ends t ed x u) (fun u => mw cI cZ h r mk hg u kn nb tb) := by
  refine ct_i_of (by decide) (Nat.le_of_ble_eq_true rfl) ?_
  intro p e s m args below meth c A Q ls F hK hP hD hS hA hend hl
  have F : CallFix p m c cX1_edge 5 s args lw_all RX1 := F
  obtain ⟨hx, hb, hml, hown, hts⟩ := id F
  have hl : lv_has ls 5 [(0, .ref h), (1, .int lab), (2, .int ends), (3, .int (nI t))] := hl
  refine lv_iload_n hx hb dX1_edge_0 rfl (lv_at hl 1 rfl) ?_
  refine lv_if_lt (tgt := 9) hx hb dX1_edge_1 (by decide) (fun c1 => ?_) (fun c1 => ?_)
  · refine lv_iconst (v := (-1)) hx hb dX1_edge_9 (by decide) ?_
    exact hend ((-1)) ed _ _ _ _ dX1_edge_10 rfl (Or.inl ⟨by first | exact inR_n0 (by decide) c1 | exact inR_nle (by decide) c6, rfl, rfl⟩) hP hD hS
  · refine lv_iload_n hx hb dX1_edge_4 rfl (lv_at hl 1 rfl) ?_
    refine lv_iconst (v := nI 2) hx hb dX1_edge_5 (by decide) ?_
    refine lv_icmp_le (tgt := 11) hx hb dX1_edge_6 (by decide) (fun c6 => ?_) (fun c6 => ?_)
    · refine lv_iload_n hx hb dX1_edge_11 rfl (lv_at hl 2 rfl) ?_
      refine lv_if_lt (tgt := 21) hx hb dX1_edge_12 (by decide) (fun c12 => ?_) (fun c12 => ?_)
      · refine lv_bipush (v := (-2)) hx hb dX1_edge_21 (by decide) ?_
        exact hend ((-2)) ed _ _ _ _ dX1_edge_23 rfl (Or.inr (Or.inl ⟨inR_le (by decide) c1 c6, by first | exact inR_n0 (by decide) c12 | exact inR_nle (by decide) c18, rfl, rfl⟩)) hP hD hS
      · refine lv_iload_n hx hb dX1_edge_15 rfl (lv_at hl 2 rfl) ?_
        refine lv_bipush (v := nI 63) hx hb dX1_edge_16 (by decide) ?_
        refine lv_icmp_le (tgt := 24) hx hb dX1_edge_18 (by decide) (fun c18 => ?_) (fun c18 => ?_)
        · obtain ⟨j, hj, rfl⟩ := inR_le (by decide) c1 c6
          obtain ⟨k, hk, rfl⟩ := inR_le (by decide) c12 c18
          have he0 := hed (j * 64 + k) (by omega)
          refine lv_aload_n hx hb dX1_edge_24 rfl (lv_at hl 0 rfl) ?_
          refine va_get (D := D) (ci := 1) (v := .ref (r 0)) (C := RX1) (T := TX1) (N := 6) hx hb hts in_X1 hown hK hP 0 rfl rfl 0 (by decide) (hts _ q196) (fun _ h9 => h9) rfl dX1_edge_25 ?_
          refine lv_iload_n hx hb dX1_edge_28 rfl (lv_at hl 1 rfl) ?_
          refine lv_bipush (v := nI 64) hx hb dX1_edge_29 (by decide) ?_
          refine xr_imul hx hb dX1_edge_31 ?_
          refine lv_iload_n hx hb dX1_edge_32 rfl (lv_at hl 2 rfl) ?_
          refine xr_iadd hx hb dX1_edge_33 ?_
          refine xr_zald (f := ed) hx hb hK hP 1 1 rfl rfl (by omega) (by decide) dX1_edge_34 ?_
          refine xr_if_eq (tgt := 42) hx hb dX1_edge_35 (by decide) (by omega) (fun c35 => ?_) (fun c35 => ?_)
          · refine lv_iconst (v := nI 0) hx hb dX1_edge_42 (by decide) ?_
            refine lv_istore (lv' := [(4, .int (nI 0)), (0, .ref h), (1, .int (nI j)), (2, .int (nI k)), (3, .int (nI t))]) hx hb dX1_edge_43 hl (by decide) rfl (fun ls hl => ?_)
            refine lv_aload_n hx hb dX1_edge_45 rfl (lv_at hl 1 rfl) ?_
            refine va_get (D := D) (ci := 1) (v := .ref (r 0)) (C := RX1) (T := TX1) (N := 6) hx hb hts in_X1 hown hK hP 0 rfl rfl 0 (by decide) (hts _ q196) (fun _ h9 => h9) rfl dX1_edge_46 ?_
            refine lv_iload_n hx hb dX1_edge_49 rfl (lv_at hl 2 rfl) ?_
            refine lv_bipush (v := nI 64) hx hb dX1_edge_50 (by decide) ?_
            refine xr_imul hx hb dX1_edge_52 ?_
            refine lv_iload_n hx hb dX1_edge_53 rfl (lv_at hl 3 rfl) ?_
            refine xr_iadd hx hb dX1_edge_54 ?_
            refine lv_iload_n hx hb dX1_edge_55 rfl (lv_at hl 4 rfl) ?_
            refine xr_zast (f := ed) hx hb hK hP hD hS 1 1 rfl rfl (by omega) (by decide) (by omega) dX1_edge_56 (fun H locs hP hD hS => ?_)
            have hP : va_P D vwCl (mw cI cZ h r mk hg (va_up ed ((j * 64) + k) t) kn nb tb) H := hP
            have hD : va_D A (mw cI cZ h r mk hg (va_up ed ((j * 64) + k) t) kn nb tb) := hD
            refine lv_iload hx hb dX1_edge_57 (lv_at hl 0 rfl) ?_
            exact hend (nI 0) (va_up ed ((j * 64) + k) t) _ _ _ _ dX1_edge_59 rfl (Or.inr (Or.inr ⟨j, k, hj, hk, rfl, rfl, by first | rw [if_pos c35] | rw [if_neg c35], rfl⟩)) hP hD hS
          · refine lv_iconst (v := nI 1) hx hb dX1_edge_38 (by decide) ?_
            refine lv_goto (tgt := 43) hx hb dX1_edge_39 (by decide) ?_
            refine lv_istore (lv' := [(4, .int (nI 1)), (0, .ref h), (1, .int (nI j)), (2, .int (nI k)), (3, .int (nI t))]) hx hb dX1_edge_43 hl (by decide) rfl (fun ls hl => ?_)
            refine lv_aload_n hx hb dX1_edge_45 rfl (lv_at hl 1 rfl) ?_
            refine va_get (D := D) (ci := 1) (v := .ref (r 0)) (C := RX1) (T := TX1) (N := 6) hx hb hts in_X1 hown hK hP 0 rfl rfl 0 (by decide) (hts _ q196) (fun _ h9 => h9) rfl dX1_edge_46 ?_
            refine lv_iload_n hx hb dX1_edge_49 rfl (lv_at hl 2 rfl) ?_
            refine lv_bipush (v := nI 64) hx hb dX1_edge_50 (by decide) ?_
            refine xr_imul hx hb dX1_edge_52 ?_
            refine lv_iload_n hx hb dX1_edge_53 rfl (lv_at hl 3 rfl) ?_
            refine xr_iadd hx hb dX1_edge_54 ?_
            refine lv_iload_n hx hb dX1_edge_55 rfl (lv_at hl 4 rfl) ?_
            refine xr_zast (f := ed) hx hb hK hP hD hS 1 1 rfl rfl (by omega) (by decide) (by omega) dX1_edge_56 (fun H locs hP hD hS => ?_)
            have hP : va_P D vwCl (mw cI cZ h r mk hg (va_up ed ((j * 64) + k) t) kn nb tb) H := hP
            have hD : va_D A (mw cI cZ h r mk hg (va_up ed ((j * 64) + k) t) kn nb tb) := hD
            refine lv_iload hx hb dX1_edge_57 (lv_at hl 0 rfl) ?_
            exact hend (nI 1) (va_up ed ((j * 64) + k) t) _ _ _ _ dX1_edge_59 rfl (Or.inr (Or.inr ⟨j, k, hj, hk, rfl, rfl, by first | rw [if_pos c35] | rw [if_neg c35], rfl⟩)) hP hD hS
        · refine lv_bipush (v := (-2)) hx hb dX1_edge_21 (by decide) ?_
          exact hend ((-2)) ed _ _ _ _ dX1_edge_23 rfl (Or.inr (Or.inl ⟨inR_le (by decide) c1 c6, by first | exact inR_n0 (by decide) c12 | exact inR_nle (by decide) c18, rfl, rfl⟩)) hP hD hS
    · refine lv_iconst (v := (-1)) hx hb dX1_edge_9 (by decide) ?_
      exact hend ((-1)) ed _ _ _ _ dX1_edge_10 rfl (Or.inl ⟨by first | exact inR_n0 (by decide) c1 | exact inR_nle (by decide) c6, rfl, rfl⟩) hP hD hS
def mStep (k nbv t mk hg : Nat) (kn nb : Nat → Nat) (x : Int32) (u : Nat × Nat × (Nat → Nat) × (Nat → Nat)) : Prop :=
  (rf mk hg t ≠ 0 ∧ x = rf mk hg t ∧ u = (mk, hg, kn, nb)) ∨ (rf mk hg t = 0 ∧ x = nI (hg - t + 1) ∧ u = (mk + 1, hg - t + 1, va_up kn mk k, va_up nb mk nbv))
theorem rf_3 {mk ht t : Nat} (h : 14 ≤ mk ∨ (t = 0 ∧ 6 ≤ ht)) : rf mk ht t = -3 := by
  unfold rf
  rw [if_pos h]
theorem rf_4 {mk ht t : Nat} (h : ¬ (14 ≤ mk ∨ (t = 0 ∧ 6 ≤ ht))) (h2 : ht < t) : rf mk ht t = -4 := by
  unfold rf
  rw [if_neg h, if_pos h2]
theorem rf_z {mk ht t : Nat} (h : ¬ (14 ≤ mk ∨ (t = 0 ∧ 6 ≤ ht))) (h2 : ¬ ht < t) : rf mk ht t = 0 := by
  unfold rf
  rw [if_neg h, if_neg h2]
set_option maxHeartbeats 4000000 in
set_option maxRecDepth 100000 in
theorem M_step (l : Launch) (D : va_G) (cI cZ : ClassId) (h : Nat) (r : Nat → Nat) (mk hg : Nat) (ed kn nb tb : Nat → Nat) (k : Nat) (num : Int32) (nbv t : Nat) (hnum : num = nI nbv - 1) (htt : t ≤ 2) (hmk : mk ≤ 14) (hhg : hg ≤ 6) :
    ct_i l yX1_step cX1_step 4 .int (rmL 0 0) D (tyL cI cZ) [.ref h, .int (nI k), .int num, .int (nI t)] (mw cI cZ h r mk hg ed kn nb tb) (Nat × Nat × (Nat → Nat) × (Nat → Nat)) (fun x u => mStep k nbv t mk hg kn nb x u) (fun u => mw cI cZ h r u.1 u.2.1 ed u.2.2.1 u.2.2.2 tb) := by
  refine ct_i_of (by decide) (Nat.le_of_ble_eq_true rfl) ?_
  intro p e s m args below meth c A Q ls F hK hP hD hS hA hend hl
  have F : CallFix p m c cX1_step 4 s args lw_all RX1 := F
  obtain ⟨hx, hb, hml, hown, hts⟩ := id F
  have hl : lv_has ls 4 [(0, .ref h), (1, .int (nI k)), (2, .int num), (3, .int (nI t))] := hl
  refine lv_aload_n hx hb dX1_step_0 rfl (lv_at hl 0 rfl) ?_
  refine va_get (D := D) (ci := 1) (v := .int (nI mk)) (C := RX1) (T := TX1) (N := 6) hx hb hts in_X1 hown hK hP 0 rfl rfl 1 (by decide) (hts _ q197) (fun _ h9 => h9) rfl dX1_step_1 ?_
  refine lv_bipush (v := nI 14) hx hb dX1_step_4 (by decide) ?_
  refine xr_icmp_eq (tgt := 22) hx hb dX1_step_6 (by decide) (by omega) (by omega) (fun c6 => ?_) (fun c6 => ?_)
  · refine lv_bipush (v := (-3)) hx hb dX1_step_22 (by decide) ?_
    exact hend ((-3)) (mk, hg, kn, nb) _ _ _ _ dX1_step_24 rfl (Or.inl ⟨by rw [rf_3 (by omega)]; decide, (rf_3 (by omega)).symm, rfl⟩) hP hD hS
  · refine lv_iload_n hx hb dX1_step_9 rfl (lv_at hl 3 rfl) ?_
    refine xr_if_ne (tgt := 25) hx hb dX1_step_10 (by decide) (by omega) (fun c10 => ?_) (fun c10 => ?_)
    · refine lv_aload_n hx hb dX1_step_25 rfl (lv_at hl 0 rfl) ?_
      refine va_get (D := D) (ci := 1) (v := .int (nI hg)) (C := RX1) (T := TX1) (N := 6) hx hb hts in_X1 hown hK hP 0 rfl rfl 4 (by decide) (hts _ q200) (fun _ h9 => h9) rfl dX1_step_26 ?_
      refine lv_iload_n hx hb dX1_step_29 rfl (lv_at hl 3 rfl) ?_
      refine xr_icmp_ge (tgt := 36) hx hb dX1_step_30 (by decide) (by omega) (by omega) (fun c30 => ?_) (fun c30 => ?_)
      · refine lv_aload_n hx hb dX1_step_36 rfl (lv_at hl 0 rfl) ?_
        refine va_get (D := D) (ci := 1) (v := .ref (r 1)) (C := RX1) (T := TX1) (N := 6) hx hb hts in_X1 hown hK hP 0 rfl rfl 2 (by decide) (hts _ q198) (fun _ h9 => h9) rfl dX1_step_37 ?_
        refine lv_aload_n hx hb dX1_step_40 rfl (lv_at hl 0 rfl) ?_
        refine va_get (D := D) (ci := 1) (v := .int (nI mk)) (C := RX1) (T := TX1) (N := 6) hx hb hts in_X1 hown hK hP 0 rfl rfl 1 (by decide) (hts _ q197) (fun _ h9 => h9) rfl dX1_step_41 ?_
        refine lv_iload_n hx hb dX1_step_44 rfl (lv_at hl 1 rfl) ?_
        refine xr_iast (f := kn) hx hb hK hP hD hS 2 0 rfl rfl (by omega) (by decide) dX1_step_45 (fun H locs hP hD hS => ?_)
        have hP : va_P D vwCl (mw cI cZ h r mk hg ed (va_up kn mk k) nb tb) H := hP
        have hD : va_D A (mw cI cZ h r mk hg ed (va_up kn mk k) nb tb) := hD
        refine lv_aload_n hx hb dX1_step_46 rfl (lv_at hl 0 rfl) ?_
        refine va_get (D := D) (ci := 1) (v := .ref (r 2)) (C := RX1) (T := TX1) (N := 6) hx hb hts in_X1 hown hK hP 0 rfl rfl 3 (by decide) (hts _ q199) (fun _ h9 => h9) rfl dX1_step_47 ?_
        refine lv_aload_n hx hb dX1_step_50 rfl (lv_at hl 0 rfl) ?_
        refine va_get (D := D) (ci := 1) (v := .int (nI mk)) (C := RX1) (T := TX1) (N := 6) hx hb hts in_X1 hown hK hP 0 rfl rfl 1 (by decide) (hts _ q197) (fun _ h9 => h9) rfl dX1_step_51 ?_
        refine lv_iload_n hx hb dX1_step_54 rfl (lv_at hl 2 rfl) ?_
        refine xr_mast (f := nb) (x := nbv) hx hb hK hP hD hS 3 0 rfl rfl (by omega) (by decide) hnum dX1_step_55 (fun H locs hP hD hS => ?_)
        have hP : va_P D vwCl (mw cI cZ h r mk hg ed (va_up kn mk k) (va_up nb mk nbv) tb) H := hP
        have hD : va_D A (mw cI cZ h r mk hg ed (va_up kn mk k) (va_up nb mk nbv) tb) := hD
        refine lv_aload_n hx hb dX1_step_56 rfl (lv_at hl 0 rfl) ?_
        refine lv_aload_n hx hb dX1_step_57 rfl (lv_at hl 0 rfl) ?_
        refine va_get (D := D) (ci := 1) (v := .int (nI mk)) (C := RX1) (T := TX1) (N := 6) hx hb hts in_X1 hown hK hP 0 rfl rfl 1 (by decide) (hts _ q197) (fun _ h9 => h9) rfl dX1_step_58 ?_
        refine lv_iconst (v := nI 1) hx hb dX1_step_61 (by decide) ?_
        refine xr_iadd hx hb dX1_step_62 ?_
        refine va_put (D := D) (ci := 1) (v := .int (nI (mk + 1))) (ty := .int) (C := RX1) (T := TX1) (N := 6) hx hb hts in_X1 tyX1 tyX1_ok nmX1 hown hK hP hD hS 0 rfl rfl 1 (by decide) (hts _ q197) (fun _ h9 => h9) rfl (by decide +kernel) rfl rfl (Nat.le_of_ble_eq_true rfl) dX1_step_63 (fun H locs hP hD hS => ?_)
        have hP : va_P D vwCl (mw cI cZ h r (mk + 1) hg ed (va_up kn mk k) (va_up nb mk nbv) tb) H := hP
        have hD : va_D A (mw cI cZ h r (mk + 1) hg ed (va_up kn mk k) (va_up nb mk nbv) tb) := hD
        refine lv_aload_n hx hb dX1_step_66 rfl (lv_at hl 0 rfl) ?_
        refine lv_aload_n hx hb dX1_step_67 rfl (lv_at hl 0 rfl) ?_
        refine va_get (D := D) (ci := 1) (v := .int (nI hg)) (C := RX1) (T := TX1) (N := 6) hx hb hts in_X1 hown hK hP 0 rfl rfl 4 (by decide) (hts _ q200) (fun _ h9 => h9) rfl dX1_step_68 ?_
        refine lv_iload_n hx hb dX1_step_71 rfl (lv_at hl 3 rfl) ?_
        refine xr_isub hx hb dX1_step_72 (by omega) ?_
        refine lv_iconst (v := nI 1) hx hb dX1_step_73 (by decide) ?_
        refine xr_iadd hx hb dX1_step_74 ?_
        refine va_put (D := D) (ci := 1) (v := .int (nI ((hg - t) + 1))) (ty := .int) (C := RX1) (T := TX1) (N := 6) hx hb hts in_X1 tyX1 tyX1_ok nmX1 hown hK hP hD hS 0 rfl rfl 4 (by decide) (hts _ q200) (fun _ h9 => h9) rfl (by decide +kernel) rfl rfl (Nat.le_of_ble_eq_true rfl) dX1_step_75 (fun H locs hP hD hS => ?_)
        have hP : va_P D vwCl (mw cI cZ h r (mk + 1) ((hg - t) + 1) ed (va_up kn mk k) (va_up nb mk nbv) tb) H := hP
        have hD : va_D A (mw cI cZ h r (mk + 1) ((hg - t) + 1) ed (va_up kn mk k) (va_up nb mk nbv) tb) := hD
        refine lv_aload_n hx hb dX1_step_78 rfl (lv_at hl 0 rfl) ?_
        refine va_get (D := D) (ci := 1) (v := .int (nI ((hg - t) + 1))) (C := RX1) (T := TX1) (N := 6) hx hb hts in_X1 hown hK hP 0 rfl rfl 4 (by decide) (hts _ q200) (fun _ h9 => h9) rfl dX1_step_79 ?_
        exact hend (nI ((hg - t) + 1)) (mk + 1, (hg - t) + 1, va_up kn mk k, va_up nb mk nbv) _ _ _ _ dX1_step_82 rfl (Or.inr ⟨rf_z (by omega) (by omega), rfl, rfl⟩) hP hD hS
      · refine lv_bipush (v := (-4)) hx hb dX1_step_33 (by decide) ?_
        exact hend ((-4)) (mk, hg, kn, nb) _ _ _ _ dX1_step_35 rfl (Or.inl ⟨by rw [rf_4 (by omega) (by omega)]; decide, (rf_4 (by omega) (by omega)).symm, rfl⟩) hP hD hS
    · refine lv_aload_n hx hb dX1_step_13 rfl (lv_at hl 0 rfl) ?_
      refine va_get (D := D) (ci := 1) (v := .int (nI hg)) (C := RX1) (T := TX1) (N := 6) hx hb hts in_X1 hown hK hP 0 rfl rfl 4 (by decide) (hts _ q200) (fun _ h9 => h9) rfl dX1_step_14 ?_
      refine lv_bipush (v := nI 6) hx hb dX1_step_17 (by decide) ?_
      refine xr_icmp_ne (tgt := 25) hx hb dX1_step_19 (by decide) (by omega) (by omega) (fun c19 => ?_) (fun c19 => ?_)
      · refine lv_aload_n hx hb dX1_step_25 rfl (lv_at hl 0 rfl) ?_
        refine va_get (D := D) (ci := 1) (v := .int (nI hg)) (C := RX1) (T := TX1) (N := 6) hx hb hts in_X1 hown hK hP 0 rfl rfl 4 (by decide) (hts _ q200) (fun _ h9 => h9) rfl dX1_step_26 ?_
        refine lv_iload_n hx hb dX1_step_29 rfl (lv_at hl 3 rfl) ?_
        refine xr_icmp_ge (tgt := 36) hx hb dX1_step_30 (by decide) (by omega) (by omega) (fun c30 => ?_) (fun c30 => ?_)
        · refine lv_aload_n hx hb dX1_step_36 rfl (lv_at hl 0 rfl) ?_
          refine va_get (D := D) (ci := 1) (v := .ref (r 1)) (C := RX1) (T := TX1) (N := 6) hx hb hts in_X1 hown hK hP 0 rfl rfl 2 (by decide) (hts _ q198) (fun _ h9 => h9) rfl dX1_step_37 ?_
          refine lv_aload_n hx hb dX1_step_40 rfl (lv_at hl 0 rfl) ?_
          refine va_get (D := D) (ci := 1) (v := .int (nI mk)) (C := RX1) (T := TX1) (N := 6) hx hb hts in_X1 hown hK hP 0 rfl rfl 1 (by decide) (hts _ q197) (fun _ h9 => h9) rfl dX1_step_41 ?_
          refine lv_iload_n hx hb dX1_step_44 rfl (lv_at hl 1 rfl) ?_
          refine xr_iast (f := kn) hx hb hK hP hD hS 2 0 rfl rfl (by omega) (by decide) dX1_step_45 (fun H locs hP hD hS => ?_)
          have hP : va_P D vwCl (mw cI cZ h r mk hg ed (va_up kn mk k) nb tb) H := hP
          have hD : va_D A (mw cI cZ h r mk hg ed (va_up kn mk k) nb tb) := hD
          refine lv_aload_n hx hb dX1_step_46 rfl (lv_at hl 0 rfl) ?_
          refine va_get (D := D) (ci := 1) (v := .ref (r 2)) (C := RX1) (T := TX1) (N := 6) hx hb hts in_X1 hown hK hP 0 rfl rfl 3 (by decide) (hts _ q199) (fun _ h9 => h9) rfl dX1_step_47 ?_
          refine lv_aload_n hx hb dX1_step_50 rfl (lv_at hl 0 rfl) ?_
          refine va_get (D := D) (ci := 1) (v := .int (nI mk)) (C := RX1) (T := TX1) (N := 6) hx hb hts in_X1 hown hK hP 0 rfl rfl 1 (by decide) (hts _ q197) (fun _ h9 => h9) rfl dX1_step_51 ?_
          refine lv_iload_n hx hb dX1_step_54 rfl (lv_at hl 2 rfl) ?_
          refine xr_mast (f := nb) (x := nbv) hx hb hK hP hD hS 3 0 rfl rfl (by omega) (by decide) hnum dX1_step_55 (fun H locs hP hD hS => ?_)
          have hP : va_P D vwCl (mw cI cZ h r mk hg ed (va_up kn mk k) (va_up nb mk nbv) tb) H := hP
          have hD : va_D A (mw cI cZ h r mk hg ed (va_up kn mk k) (va_up nb mk nbv) tb) := hD
          refine lv_aload_n hx hb dX1_step_56 rfl (lv_at hl 0 rfl) ?_
          refine lv_aload_n hx hb dX1_step_57 rfl (lv_at hl 0 rfl) ?_
          refine va_get (D := D) (ci := 1) (v := .int (nI mk)) (C := RX1) (T := TX1) (N := 6) hx hb hts in_X1 hown hK hP 0 rfl rfl 1 (by decide) (hts _ q197) (fun _ h9 => h9) rfl dX1_step_58 ?_
          refine lv_iconst (v := nI 1) hx hb dX1_step_61 (by decide) ?_
          refine xr_iadd hx hb dX1_step_62 ?_
          refine va_put (D := D) (ci := 1) (v := .int (nI (mk + 1))) (ty := .int) (C := RX1) (T := TX1) (N := 6) hx hb hts in_X1 tyX1 tyX1_ok nmX1 hown hK hP hD hS 0 rfl rfl 1 (by decide) (hts _ q197) (fun _ h9 => h9) rfl (by decide +kernel) rfl rfl (Nat.le_of_ble_eq_true rfl) dX1_step_63 (fun H locs hP hD hS => ?_)
          have hP : va_P D vwCl (mw cI cZ h r (mk + 1) hg ed (va_up kn mk k) (va_up nb mk nbv) tb) H := hP
          have hD : va_D A (mw cI cZ h r (mk + 1) hg ed (va_up kn mk k) (va_up nb mk nbv) tb) := hD
          refine lv_aload_n hx hb dX1_step_66 rfl (lv_at hl 0 rfl) ?_
          refine lv_aload_n hx hb dX1_step_67 rfl (lv_at hl 0 rfl) ?_
          refine va_get (D := D) (ci := 1) (v := .int (nI hg)) (C := RX1) (T := TX1) (N := 6) hx hb hts in_X1 hown hK hP 0 rfl rfl 4 (by decide) (hts _ q200) (fun _ h9 => h9) rfl dX1_step_68 ?_
          refine lv_iload_n hx hb dX1_step_71 rfl (lv_at hl 3 rfl) ?_
          refine xr_isub hx hb dX1_step_72 (by omega) ?_
          refine lv_iconst (v := nI 1) hx hb dX1_step_73 (by decide) ?_
          refine xr_iadd hx hb dX1_step_74 ?_
          refine va_put (D := D) (ci := 1) (v := .int (nI ((hg - t) + 1))) (ty := .int) (C := RX1) (T := TX1) (N := 6) hx hb hts in_X1 tyX1 tyX1_ok nmX1 hown hK hP hD hS 0 rfl rfl 4 (by decide) (hts _ q200) (fun _ h9 => h9) rfl (by decide +kernel) rfl rfl (Nat.le_of_ble_eq_true rfl) dX1_step_75 (fun H locs hP hD hS => ?_)
          have hP : va_P D vwCl (mw cI cZ h r (mk + 1) ((hg - t) + 1) ed (va_up kn mk k) (va_up nb mk nbv) tb) H := hP
          have hD : va_D A (mw cI cZ h r (mk + 1) ((hg - t) + 1) ed (va_up kn mk k) (va_up nb mk nbv) tb) := hD
          refine lv_aload_n hx hb dX1_step_78 rfl (lv_at hl 0 rfl) ?_
          refine va_get (D := D) (ci := 1) (v := .int (nI ((hg - t) + 1))) (C := RX1) (T := TX1) (N := 6) hx hb hts in_X1 hown hK hP 0 rfl rfl 4 (by decide) (hts _ q200) (fun _ h9 => h9) rfl dX1_step_79 ?_
          exact hend (nI ((hg - t) + 1)) (mk + 1, (hg - t) + 1, va_up kn mk k, va_up nb mk nbv) _ _ _ _ dX1_step_82 rfl (Or.inr ⟨rf_z (by omega) (by omega), rfl, rfl⟩) hP hD hS
        · refine lv_bipush (v := (-4)) hx hb dX1_step_33 (by decide) ?_
          exact hend ((-4)) (mk, hg, kn, nb) _ _ _ _ dX1_step_35 rfl (Or.inl ⟨by rw [rf_4 (by omega) (by omega)]; decide, (rf_4 (by omega) (by omega)).symm, rfl⟩) hP hD hS
      · refine lv_bipush (v := (-3)) hx hb dX1_step_22 (by decide) ?_
        exact hend ((-3)) (mk, hg, kn, nb) _ _ _ _ dX1_step_24 rfl (Or.inl ⟨by rw [rf_3 (by omega)]; decide, (rf_3 (by omega)).symm, rfl⟩) hP hD hS
set_option maxHeartbeats 4000000 in
set_option maxRecDepth 100000 in
theorem M_label (l : Launch) (D : va_G) (cI cZ : ClassId) (h : Nat) (r : Nat → Nat) (mk hg : Nat) (ed kn nb tb : Nat → Nat) (n : Int32) (hmk : mk ≤ 14) (hhg : hg ≤ 6) :
    ct_i l yX1_label cX1_label 2 .int (rmL 1 23) D (tyL cI cZ) [.ref h, .int n] (mw cI cZ h r mk hg ed kn nb tb) (Nat × Nat × (Nat → Nat) × (Nat → Nat)) (fun x u => (¬ inR n 3 ∧ x = -1 ∧ u = (mk, hg, kn, nb)) ∨ (∃ j, j < 3 ∧ n = nI j ∧ mStep 0 (j + 1) 0 mk hg kn nb x u)) (fun u => mw cI cZ h r u.1 u.2.1 ed u.2.2.1 u.2.2.2 tb) := by
  refine ct_i_of (by decide) (Nat.le_of_ble_eq_true rfl) ?_
  intro p e s m args below meth c A Q ls F hK hP hD hS hA hend hl
  have F : CallFix p m c cX1_label 2 s args lw_all RX1 := F
  obtain ⟨hx, hb, hml, hown, hts⟩ := id F
  have hl : lv_has ls 2 [(0, .ref h), (1, .int n)] := hl
  refine lv_iload_n hx hb dX1_label_0 rfl (lv_at hl 1 rfl) ?_
  refine lv_if_lt (tgt := 9) hx hb dX1_label_1 (by decide) (fun c1 => ?_) (fun c1 => ?_)
  · refine lv_iconst (v := (-1)) hx hb dX1_label_9 (by decide) ?_
    refine lv_goto (tgt := 20) hx hb dX1_label_10 (by decide) ?_
    exact hend ((-1)) (mk, hg, kn, nb) _ _ _ _ dX1_label_20 rfl (Or.inl ⟨by first | exact inR_n0 (by decide) c1 | exact inR_nle (by decide) c6, rfl, rfl⟩) hP hD hS
  · refine lv_iload_n hx hb dX1_label_4 rfl (lv_at hl 1 rfl) ?_
    refine lv_iconst (v := nI 2) hx hb dX1_label_5 (by decide) ?_
    refine lv_icmp_le (tgt := 13) hx hb dX1_label_6 (by decide) (fun c6 => ?_) (fun c6 => ?_)
    · obtain ⟨j, hj, rfl⟩ := inR_le (by decide) c1 c6
      refine lv_aload_n hx hb dX1_label_13 rfl (lv_at hl 0 rfl) ?_
      refine lv_iconst (v := nI 0) hx hb dX1_label_14 (by decide) ?_
      refine lv_iload_n hx hb dX1_label_15 rfl (lv_at hl 1 rfl) ?_
      refine lv_iconst (v := nI 0) hx hb dX1_label_16 (by decide) ?_
      refine cl_i0 (As := [.int (nI 0), .int (nI j), .int (nI 0)]) (rest := []) (C := RX1) F (M_step l D cI cZ h r mk hg ed kn nb tb 0 (nI j) (j + 1) 0 (zz_m1s j).symm (by decide) hmk hhg) (lw_V q224 q226 qs11 q21 q227) 3 rfl (by decide +kernel) ⟨Nat.le_of_ble_eq_true rfl, Nat.le_of_ble_eq_true rfl⟩ ⟨rfl, rfl⟩ ⟨Nat.zero_le _, Nat.zero_le _⟩ hK hP hD hS hA 0 1 rfl rfl hl.1 rfl (Nat.le_of_ble_eq_true rfl) dX1_label_17 (fun r1 u H locs hw hP hD hS => ?_)
      have hP : va_P D vwCl (mw cI cZ h r u.1 u.2.1 ed u.2.2.1 u.2.2.2 tb) H := hP
      have hD : va_D A (mw cI cZ h r u.1 u.2.1 ed u.2.2.1 u.2.2.2 tb) := hD
      exact hend (r1) u _ _ _ _ dX1_label_20 rfl (Or.inr ⟨j, hj, rfl, hw⟩) hP hD hS
    · refine lv_iconst (v := (-1)) hx hb dX1_label_9 (by decide) ?_
      refine lv_goto (tgt := 20) hx hb dX1_label_10 (by decide) ?_
      exact hend ((-1)) (mk, hg, kn, nb) _ _ _ _ dX1_label_20 rfl (Or.inl ⟨by first | exact inR_n0 (by decide) c1 | exact inR_nle (by decide) c6, rfl, rfl⟩) hP hD hS
set_option maxHeartbeats 4000000 in
set_option maxRecDepth 100000 in
theorem M_back (l : Launch) (D : va_G) (cI cZ : ClassId) (h : Nat) (r : Nat → Nat) (mk hg : Nat) (ed kn nb tb : Nat → Nat) (n : Int32) (hmk : mk ≤ 14) (hhg : hg ≤ 6) :
    ct_i l yX1_back cX1_back 2 .int (rmL 1 23) D (tyL cI cZ) [.ref h, .int n] (mw cI cZ h r mk hg ed kn nb tb) (Nat × Nat × (Nat → Nat) × (Nat → Nat)) (fun x u => (¬ inR n 3 ∧ x = -1 ∧ u = (mk, hg, kn, nb)) ∨ (∃ j, j < 3 ∧ n = nI j ∧ mStep 1 (j + 1) 0 mk hg kn nb x u)) (fun u => mw cI cZ h r u.1 u.2.1 ed u.2.2.1 u.2.2.2 tb) := by
  refine ct_i_of (by decide) (Nat.le_of_ble_eq_true rfl) ?_
  intro p e s m args below meth c A Q ls F hK hP hD hS hA hend hl
  have F : CallFix p m c cX1_back 2 s args lw_all RX1 := F
  obtain ⟨hx, hb, hml, hown, hts⟩ := id F
  have hl : lv_has ls 2 [(0, .ref h), (1, .int n)] := hl
  refine lv_iload_n hx hb dX1_back_0 rfl (lv_at hl 1 rfl) ?_
  refine lv_if_lt (tgt := 9) hx hb dX1_back_1 (by decide) (fun c1 => ?_) (fun c1 => ?_)
  · refine lv_iconst (v := (-1)) hx hb dX1_back_9 (by decide) ?_
    refine lv_goto (tgt := 20) hx hb dX1_back_10 (by decide) ?_
    exact hend ((-1)) (mk, hg, kn, nb) _ _ _ _ dX1_back_20 rfl (Or.inl ⟨by first | exact inR_n0 (by decide) c1 | exact inR_nle (by decide) c6, rfl, rfl⟩) hP hD hS
  · refine lv_iload_n hx hb dX1_back_4 rfl (lv_at hl 1 rfl) ?_
    refine lv_iconst (v := nI 2) hx hb dX1_back_5 (by decide) ?_
    refine lv_icmp_le (tgt := 13) hx hb dX1_back_6 (by decide) (fun c6 => ?_) (fun c6 => ?_)
    · obtain ⟨j, hj, rfl⟩ := inR_le (by decide) c1 c6
      refine lv_aload_n hx hb dX1_back_13 rfl (lv_at hl 0 rfl) ?_
      refine lv_iconst (v := nI 1) hx hb dX1_back_14 (by decide) ?_
      refine lv_iload_n hx hb dX1_back_15 rfl (lv_at hl 1 rfl) ?_
      refine lv_iconst (v := nI 0) hx hb dX1_back_16 (by decide) ?_
      refine cl_i0 (As := [.int (nI 1), .int (nI j), .int (nI 0)]) (rest := []) (C := RX1) F (M_step l D cI cZ h r mk hg ed kn nb tb 1 (nI j) (j + 1) 0 (zz_m1s j).symm (by decide) hmk hhg) (lw_V q224 q226 qs11 q21 q227) 3 rfl (by decide +kernel) ⟨Nat.le_of_ble_eq_true rfl, Nat.le_of_ble_eq_true rfl⟩ ⟨rfl, rfl⟩ ⟨Nat.zero_le _, Nat.zero_le _⟩ hK hP hD hS hA 0 1 rfl rfl hl.1 rfl (Nat.le_of_ble_eq_true rfl) dX1_back_17 (fun r1 u H locs hw hP hD hS => ?_)
      have hP : va_P D vwCl (mw cI cZ h r u.1 u.2.1 ed u.2.2.1 u.2.2.2 tb) H := hP
      have hD : va_D A (mw cI cZ h r u.1 u.2.1 ed u.2.2.1 u.2.2.2 tb) := hD
      exact hend (r1) u _ _ _ _ dX1_back_20 rfl (Or.inr ⟨j, hj, rfl, hw⟩) hP hD hS
    · refine lv_iconst (v := (-1)) hx hb dX1_back_9 (by decide) ?_
      refine lv_goto (tgt := 20) hx hb dX1_back_10 (by decide) ?_
      exact hend ((-1)) (mk, hg, kn, nb) _ _ _ _ dX1_back_20 rfl (Or.inl ⟨by first | exact inR_n0 (by decide) c1 | exact inR_nle (by decide) c6, rfl, rfl⟩) hP hD hS
theorem at_2 {n : Int32} (h1 : ¬ n < -1) (h2 : n ≤ nI 7) : n = -1 ∨ inR n 8 := by
  by_cases q : n < 0
  · exact Or.inl (at_m1 h1 (fun z => (fa_of_lt q).2.1 z))
  · exact Or.inr (inR_le (by decide) q h2)
set_option maxHeartbeats 4000000 in
set_option maxRecDepth 100000 in
theorem M_at (l : Launch) (D : va_G) (cI cZ : ClassId) (h : Nat) (r : Nat → Nat) (mk hg : Nat) (ed kn nb tb : Nat → Nat) (n : Int32) (hmk : mk ≤ 14) (hhg : hg ≤ 6) :
    ct_i l yX1_at cX1_at 2 .int (rmL 1 23) D (tyL cI cZ) [.ref h, .int n] (mw cI cZ h r mk hg ed kn nb tb) (Nat × Nat × (Nat → Nat) × (Nat → Nat)) (fun x u => (¬ n = -1 ∧ ¬ inR n 8 ∧ x = -2 ∧ u = (mk, hg, kn, nb)) ∨ (n = -1 ∧ mStep 2 0 0 mk hg kn nb x u) ∨ (∃ j, j < 8 ∧ n = nI j ∧ mStep 2 (j + 1) 0 mk hg kn nb x u)) (fun u => mw cI cZ h r u.1 u.2.1 ed u.2.2.1 u.2.2.2 tb) := by
  refine ct_i_of (by decide) (Nat.le_of_ble_eq_true rfl) ?_
  intro p e s m args below meth c A Q ls F hK hP hD hS hA hend hl
  have F : CallFix p m c cX1_at 2 s args lw_all RX1 := F
  obtain ⟨hx, hb, hml, hown, hts⟩ := id F
  have hl : lv_has ls 2 [(0, .ref h), (1, .int n)] := hl
  refine lv_iload_n hx hb dX1_at_0 rfl (lv_at hl 1 rfl) ?_
  refine lv_iconst (v := (-1)) hx hb dX1_at_1 (by decide) ?_
  refine lv_icmp_lt (tgt := 11) hx hb dX1_at_2 (by decide) (fun c2 => ?_) (fun c2 => ?_)
  · refine lv_bipush (v := (-2)) hx hb dX1_at_11 (by decide) ?_
    refine lv_goto (tgt := 23) hx hb dX1_at_13 (by decide) ?_
    exact hend ((-2)) (mk, hg, kn, nb) _ _ _ _ dX1_at_23 rfl (Or.inl (by first | exact ⟨fun q => by subst q; exact absurd c2 (by decide), inR_n0 (by decide) (fa_trans c2 (by decide)), rfl, rfl⟩ | exact ⟨fun q => by subst q; exact c8 (by decide), inR_nle (by decide) c8, rfl, rfl⟩)) hP hD hS
  · refine lv_iload_n hx hb dX1_at_5 rfl (lv_at hl 1 rfl) ?_
    refine lv_bipush (v := nI 7) hx hb dX1_at_6 (by decide) ?_
    refine lv_icmp_le (tgt := 16) hx hb dX1_at_8 (by decide) (fun c8 => ?_) (fun c8 => ?_)
    · rcases at_2 c2 c8 with rfl | ⟨j, hj, rfl⟩
      · refine lv_aload_n hx hb dX1_at_16 rfl (lv_at hl 0 rfl) ?_
        refine lv_iconst (v := nI 2) hx hb dX1_at_17 (by decide) ?_
        refine lv_iload_n hx hb dX1_at_18 rfl (lv_at hl 1 rfl) ?_
        refine lv_iconst (v := nI 0) hx hb dX1_at_19 (by decide) ?_
        refine cl_i0 (As := [.int (nI 2), .int (-1), .int (nI 0)]) (rest := []) (C := RX1) F (M_step l D cI cZ h r mk hg ed kn nb tb 2 (-1) (0) 0 (by decide) (by decide) hmk hhg) (lw_V q224 q226 qs11 q21 q227) 3 rfl (by decide +kernel) ⟨Nat.le_of_ble_eq_true rfl, Nat.le_of_ble_eq_true rfl⟩ ⟨rfl, rfl⟩ ⟨Nat.zero_le _, Nat.zero_le _⟩ hK hP hD hS hA 0 1 rfl rfl hl.1 rfl (Nat.le_of_ble_eq_true rfl) dX1_at_20 (fun r1 u H locs hw hP hD hS => ?_)
        have hP : va_P D vwCl (mw cI cZ h r u.1 u.2.1 ed u.2.2.1 u.2.2.2 tb) H := hP
        have hD : va_D A (mw cI cZ h r u.1 u.2.1 ed u.2.2.1 u.2.2.2 tb) := hD
        exact hend (r1) u _ _ _ _ dX1_at_23 rfl (Or.inr (Or.inl ⟨rfl, hw⟩)) hP hD hS
      · refine lv_aload_n hx hb dX1_at_16 rfl (lv_at hl 0 rfl) ?_
        refine lv_iconst (v := nI 2) hx hb dX1_at_17 (by decide) ?_
        refine lv_iload_n hx hb dX1_at_18 rfl (lv_at hl 1 rfl) ?_
        refine lv_iconst (v := nI 0) hx hb dX1_at_19 (by decide) ?_
        refine cl_i0 (As := [.int (nI 2), .int (nI j), .int (nI 0)]) (rest := []) (C := RX1) F (M_step l D cI cZ h r mk hg ed kn nb tb 2 (nI j) (j + 1) 0 (zz_m1s j).symm (by decide) hmk hhg) (lw_V q224 q226 qs11 q21 q227) 3 rfl (by decide +kernel) ⟨Nat.le_of_ble_eq_true rfl, Nat.le_of_ble_eq_true rfl⟩ ⟨rfl, rfl⟩ ⟨Nat.zero_le _, Nat.zero_le _⟩ hK hP hD hS hA 0 1 rfl rfl hl.1 rfl (Nat.le_of_ble_eq_true rfl) dX1_at_20 (fun r1 u H locs hw hP hD hS => ?_)
        have hP : va_P D vwCl (mw cI cZ h r u.1 u.2.1 ed u.2.2.1 u.2.2.2 tb) H := hP
        have hD : va_D A (mw cI cZ h r u.1 u.2.1 ed u.2.2.1 u.2.2.2 tb) := hD
        exact hend (r1) u _ _ _ _ dX1_at_23 rfl (Or.inr (Or.inr ⟨j, hj, rfl, hw⟩)) hP hD hS
    · refine lv_bipush (v := (-2)) hx hb dX1_at_11 (by decide) ?_
      refine lv_goto (tgt := 23) hx hb dX1_at_13 (by decide) ?_
      exact hend ((-2)) (mk, hg, kn, nb) _ _ _ _ dX1_at_23 rfl (Or.inl (by first | exact ⟨fun q => by subst q; exact absurd c2 (by decide), inR_n0 (by decide) (fa_trans c2 (by decide)), rfl, rfl⟩ | exact ⟨fun q => by subst q; exact c8 (by decide), inR_nle (by decide) c8, rfl, rfl⟩)) hP hD hS
set_option maxHeartbeats 4000000 in
set_option maxRecDepth 100000 in
theorem M_then (l : Launch) (D : va_G) (cI cZ : ClassId) (h : Nat) (r : Nat → Nat) (mk hg : Nat) (ed kn nb tb : Nat → Nat) (hmk : mk ≤ 14) (hhg : hg ≤ 6) :
    ct_i l yX1_then cX1_then 1 .int (rmL 1 23) D (tyL cI cZ) [.ref h] (mw cI cZ h r mk hg ed kn nb tb) (Nat × Nat × (Nat → Nat) × (Nat → Nat)) (fun x u => mStep 3 1 2 mk hg kn nb x u) (fun u => mw cI cZ h r u.1 u.2.1 ed u.2.2.1 u.2.2.2 tb) := by
  refine ct_i_of (by decide) (Nat.le_of_ble_eq_true rfl) ?_
  intro p e s m args below meth c A Q ls F hK hP hD hS hA hend hl
  have F : CallFix p m c cX1_then 1 s args lw_all RX1 := F
  obtain ⟨hx, hb, hml, hown, hts⟩ := id F
  have hl : lv_has ls 1 [(0, .ref h)] := hl
  refine lv_aload_n hx hb dX1_then_0 rfl (lv_at hl 0 rfl) ?_
  refine lv_iconst (v := nI 3) hx hb dX1_then_1 (by decide) ?_
  refine lv_iconst (v := nI 0) hx hb dX1_then_2 (by decide) ?_
  refine lv_iconst (v := nI 2) hx hb dX1_then_3 (by decide) ?_
  refine cl_i0 (As := [.int (nI 3), .int (nI 0), .int (nI 2)]) (rest := []) (C := RX1) F (M_step l D cI cZ h r mk hg ed kn nb tb 3 (nI 0) (1) 2 (by decide) (by decide) hmk hhg) (lw_V q224 q226 qs11 q21 q227) 3 rfl (by decide +kernel) ⟨Nat.le_of_ble_eq_true rfl, Nat.le_of_ble_eq_true rfl⟩ ⟨rfl, rfl⟩ ⟨Nat.zero_le _, Nat.zero_le _⟩ hK hP hD hS hA 0 1 rfl rfl hl.1 rfl (Nat.le_of_ble_eq_true rfl) dX1_then_4 (fun r1 u H locs hw hP hD hS => ?_)
  have hP : va_P D vwCl (mw cI cZ h r u.1 u.2.1 ed u.2.2.1 u.2.2.2 tb) H := hP
  have hD : va_D A (mw cI cZ h r u.1 u.2.1 ed u.2.2.1 u.2.2.2 tb) := hD
  exact hend (r1) u _ _ _ _ dX1_then_7 rfl hw hP hD hS
set_option maxHeartbeats 4000000 in
set_option maxRecDepth 100000 in
theorem M_or (l : Launch) (D : va_G) (cI cZ : ClassId) (h : Nat) (r : Nat → Nat) (mk hg : Nat) (ed kn nb tb : Nat → Nat) (hmk : mk ≤ 14) (hhg : hg ≤ 6) :
    ct_i l yX1_or cX1_or 1 .int (rmL 1 23) D (tyL cI cZ) [.ref h] (mw cI cZ h r mk hg ed kn nb tb) (Nat × Nat × (Nat → Nat) × (Nat → Nat)) (fun x u => mStep 4 1 2 mk hg kn nb x u) (fun u => mw cI cZ h r u.1 u.2.1 ed u.2.2.1 u.2.2.2 tb) := by
  refine ct_i_of (by decide) (Nat.le_of_ble_eq_true rfl) ?_
  intro p e s m args below meth c A Q ls F hK hP hD hS hA hend hl
  have F : CallFix p m c cX1_or 1 s args lw_all RX1 := F
  obtain ⟨hx, hb, hml, hown, hts⟩ := id F
  have hl : lv_has ls 1 [(0, .ref h)] := hl
  refine lv_aload_n hx hb dX1_or_0 rfl (lv_at hl 0 rfl) ?_
  refine lv_iconst (v := nI 4) hx hb dX1_or_1 (by decide) ?_
  refine lv_iconst (v := nI 0) hx hb dX1_or_2 (by decide) ?_
  refine lv_iconst (v := nI 2) hx hb dX1_or_3 (by decide) ?_
  refine cl_i0 (As := [.int (nI 4), .int (nI 0), .int (nI 2)]) (rest := []) (C := RX1) F (M_step l D cI cZ h r mk hg ed kn nb tb 4 (nI 0) (1) 2 (by decide) (by decide) hmk hhg) (lw_V q224 q226 qs11 q21 q227) 3 rfl (by decide +kernel) ⟨Nat.le_of_ble_eq_true rfl, Nat.le_of_ble_eq_true rfl⟩ ⟨rfl, rfl⟩ ⟨Nat.zero_le _, Nat.zero_le _⟩ hK hP hD hS hA 0 1 rfl rfl hl.1 rfl (Nat.le_of_ble_eq_true rfl) dX1_or_4 (fun r1 u H locs hw hP hD hS => ?_)
  have hP : va_P D vwCl (mw cI cZ h r u.1 u.2.1 ed u.2.2.1 u.2.2.2 tb) H := hP
  have hD : va_D A (mw cI cZ h r u.1 u.2.1 ed u.2.2.1 u.2.2.2 tb) := hD
  exact hend (r1) u _ _ _ _ dX1_or_7 rfl hw hP hD hS
set_option maxHeartbeats 4000000 in
set_option maxRecDepth 100000 in
theorem M_star (l : Launch) (D : va_G) (cI cZ : ClassId) (h : Nat) (r : Nat → Nat) (mk hg : Nat) (ed kn nb tb : Nat → Nat) (hmk : mk ≤ 14) (hhg : hg ≤ 6) :
    ct_i l yX1_star cX1_star 1 .int (rmL 1 23) D (tyL cI cZ) [.ref h] (mw cI cZ h r mk hg ed kn nb tb) (Nat × Nat × (Nat → Nat) × (Nat → Nat)) (fun x u => mStep 5 1 1 mk hg kn nb x u) (fun u => mw cI cZ h r u.1 u.2.1 ed u.2.2.1 u.2.2.2 tb) := by
  refine ct_i_of (by decide) (Nat.le_of_ble_eq_true rfl) ?_
  intro p e s m args below meth c A Q ls F hK hP hD hS hA hend hl
  have F : CallFix p m c cX1_star 1 s args lw_all RX1 := F
  obtain ⟨hx, hb, hml, hown, hts⟩ := id F
  have hl : lv_has ls 1 [(0, .ref h)] := hl
  refine lv_aload_n hx hb dX1_star_0 rfl (lv_at hl 0 rfl) ?_
  refine lv_iconst (v := nI 5) hx hb dX1_star_1 (by decide) ?_
  refine lv_iconst (v := nI 0) hx hb dX1_star_2 (by decide) ?_
  refine lv_iconst (v := nI 1) hx hb dX1_star_3 (by decide) ?_
  refine cl_i0 (As := [.int (nI 5), .int (nI 0), .int (nI 1)]) (rest := []) (C := RX1) F (M_step l D cI cZ h r mk hg ed kn nb tb 5 (nI 0) (1) 1 (by decide) (by decide) hmk hhg) (lw_V q224 q226 qs11 q21 q227) 3 rfl (by decide +kernel) ⟨Nat.le_of_ble_eq_true rfl, Nat.le_of_ble_eq_true rfl⟩ ⟨rfl, rfl⟩ ⟨Nat.zero_le _, Nat.zero_le _⟩ hK hP hD hS hA 0 1 rfl rfl hl.1 rfl (Nat.le_of_ble_eq_true rfl) dX1_star_4 (fun r1 u H locs hw hP hD hS => ?_)
  have hP : va_P D vwCl (mw cI cZ h r u.1 u.2.1 ed u.2.2.1 u.2.2.2 tb) H := hP
  have hD : va_D A (mw cI cZ h r u.1 u.2.1 ed u.2.2.1 u.2.2.2 tb) := hD
  exact hend (r1) u _ _ _ _ dX1_star_7 rfl hw hP hD hS
end
section
/-! PathAlgebraModel: the tables -/
set_option maxHeartbeats 4000000 in
set_option maxRecDepth 100000 in
theorem M_single (l : Launch) (D : va_G) (cI cZ : ClassId) (h : Nat) (r : Nat → Nat) (mk hg : Nat) (ed kn nb tb : Nat → Nat) (G : GR) (k nbv a b : Nat) (hG : MGR G ed) (hk : k < 3) (hnb : nbv ≤ 8) (hnk : k < 2 → 1 ≤ nbv ∧ nbv ≤ 3) (ha : a < 8) (hbb : b < 8) :
    ct_i l yX1_single cX1_single 6 .int (rmL 0 0) D (tyL cI cZ) [.ref h, .int (nI k), .int (nI nbv - 1), .int (nI a), .int (nI b)] (mw cI cZ h r mk hg ed kn nb tb) (Unit) (fun x _ => ∃ v, x = nI v ∧ mSg G k nbv a b v) (fun _ => mw cI cZ h r mk hg ed kn nb tb) := by
  refine ct_i_of (by decide) (Nat.le_of_ble_eq_true rfl) ?_
  intro p e s m args below meth c A Q ls F hK hP hD hS hA hend hl
  have F : CallFix p m c cX1_single 6 s args lw_all RX1 := F
  obtain ⟨hx, hb, hml, hown, hts⟩ := id F
  have hl : lv_has ls 6 [(0, .ref h), (1, .int (nI k)), (2, .int (nI nbv - 1)), (3, .int (nI a)), (4, .int (nI b))] := hl
  obtain ⟨hG0, hed, hGM⟩ := hG
  refine lv_iload_n hx hb dX1_single_0 rfl (lv_at hl 3 rfl) ?_
  refine lv_iload hx hb dX1_single_1 (lv_at hl 4 rfl) ?_
  refine xr_icmp_ne (tgt := 20) hx hb dX1_single_3 (by decide) (by omega) (by omega) (fun c3 => ?_) (fun c3 => ?_)
  · refine lv_iconst (v := nI 0) hx hb dX1_single_20 (by decide) ?_
    (try rw [zz_mn1 (by omega)] at c8); (try rw [zz_mna (by omega) (by omega)] at c13)
    refine lv_istore (lv' := [(5, .int (nI 0)), (0, .ref h), (1, .int (nI k)), (2, .int (nI nbv - 1)), (3, .int (nI a)), (4, .int (nI b))]) hx hb dX1_single_21 hl (by decide) rfl (fun ls hl => ?_)
    refine lv_iload_n hx hb dX1_single_23 rfl (lv_at hl 2 rfl) ?_
    refine xr_if_ne (tgt := 49) hx hb dX1_single_24 (by decide) (by omega) (fun c24 => ?_) (fun c24 => ?_)
    · refine lv_iload_n hx hb dX1_single_49 rfl (lv_at hl 2 rfl) ?_
      refine lv_iconst (v := nI 1) hx hb dX1_single_50 (by decide) ?_
      refine xr_icmp_ne (tgt := 73) hx hb dX1_single_51 (by decide) (by omega) (by omega) (fun c51 => ?_) (fun c51 => ?_)
      · refine lv_iload hx hb dX1_single_73 (lv_at hl 0 rfl) ?_
        refine xr_if_ne (tgt := 83) hx hb dX1_single_75 (by decide) (by omega) (fun c75 => ?_) (fun c75 => ?_)
        · omega
        · refine lv_ldc (v := nI 100000) hx hb hown (hts _ q268) dX1_single_78 ?_
          refine lv_goto (tgt := 93) hx hb dX1_single_80 (by decide) ?_
          exact hend (nI 100000) () _ _ _ _ dX1_single_93 rfl ⟨100000, rfl, by first | (have ek : k = 0 := (by omega); subst ek; exact sg_0f (by omega) (fun z => by have := hg0.mp z; omega)) | (have ek : k = 1 := (by omega); subst ek; exact sg_1f (by omega) (fun z => by have := hg0.mp z; omega)) | (have ek : k = 2 := (by omega); subst ek; exact sg_2f (by omega)) | (exfalso; omega)⟩ hP hD hS
      · have hnk := hnk (by omega)
        obtain ⟨q, rfl⟩ : ∃ q, nbv = q + 1 := ⟨nbv - 1, by omega⟩
        rw [zz_m1s] at hl
        have he0 := hed (q * 64 + b + 8 * a) (by omega)
        have hg0 := hGM q b a (by omega) (by omega) (by omega)
        refine lv_aload_n hx hb dX1_single_54 rfl (lv_at hl 1 rfl) ?_
        refine va_get (D := D) (ci := 1) (v := .ref (r 0)) (C := RX1) (T := TX1) (N := 6) hx hb hts in_X1 hown hK hP 0 rfl rfl 0 (by decide) (hts _ q196) (fun _ h9 => h9) rfl dX1_single_55 ?_
        refine lv_iload_n hx hb dX1_single_58 rfl (lv_at hl 3 rfl) ?_
        refine lv_bipush (v := nI 64) hx hb dX1_single_59 (by decide) ?_
        refine xr_imul hx hb dX1_single_61 ?_
        refine lv_iload hx hb dX1_single_62 (lv_at hl 5 rfl) ?_
        refine xr_iadd hx hb dX1_single_64 ?_
        refine lv_bipush (v := nI 8) hx hb dX1_single_65 (by decide) ?_
        refine lv_iload_n hx hb dX1_single_67 rfl (lv_at hl 4 rfl) ?_
        refine xr_imul hx hb dX1_single_68 ?_
        refine xr_iadd hx hb dX1_single_69 ?_
        refine xr_zald (f := ed) hx hb hK hP 1 1 rfl rfl (by omega) (by decide) dX1_single_70 ?_
        refine lv_istore (lv' := [(5, .int (nI (ed (((q * 64) + b) + (8 * a))))), (0, .ref h), (1, .int (nI k)), (2, .int (nI q)), (3, .int (nI a)), (4, .int (nI b))]) hx hb dX1_single_71 hl (by decide) rfl (fun ls hl => ?_)
        refine lv_iload hx hb dX1_single_73 (lv_at hl 0 rfl) ?_
        refine xr_if_ne (tgt := 83) hx hb dX1_single_75 (by decide) (by omega) (fun c75 => ?_) (fun c75 => ?_)
        · refine lv_iload_n hx hb dX1_single_83 rfl (lv_at hl 2 rfl) ?_
          refine lv_iconst (v := nI 2) hx hb dX1_single_84 (by decide) ?_
          refine xr_icmp_ne (tgt := 92) hx hb dX1_single_85 (by decide) (by omega) (by omega) (fun c85 => ?_) (fun c85 => ?_)
          · refine lv_iconst (v := nI 1) hx hb dX1_single_92 (by decide) ?_
            exact hend (nI 1) () _ _ _ _ dX1_single_93 rfl ⟨1, rfl, by first | (have ek : k = 0 := (by omega); subst ek; exact sg_0t (by omega) (hg0.mpr (by omega))) | (have ek : k = 1 := (by omega); subst ek; exact sg_1t (by omega) (hg0.mpr (by omega))) | (have ek : k = 2 := (by omega); subst ek; exact sg_2f (by omega)) | (exfalso; omega)⟩ hP hD hS
          · refine lv_iconst (v := nI 0) hx hb dX1_single_88 (by decide) ?_
            refine lv_goto (tgt := 93) hx hb dX1_single_89 (by decide) ?_
            exact hend (nI 0) () _ _ _ _ dX1_single_93 rfl ⟨0, rfl, by first | (have ek : k = 0 := (by omega); subst ek; exact sg_0f (by omega) (fun z => by have := hg0.mp z; omega)) | (have ek : k = 1 := (by omega); subst ek; exact sg_1f (by omega) (fun z => by have := hg0.mp z; omega)) | (have ek : k = 2 := (by omega); subst ek; exact sg_2t (by omega)) | (exfalso; omega)⟩ hP hD hS
        · refine lv_ldc (v := nI 100000) hx hb hown (hts _ q268) dX1_single_78 ?_
          refine lv_goto (tgt := 93) hx hb dX1_single_80 (by decide) ?_
          exact hend (nI 100000) () _ _ _ _ dX1_single_93 rfl ⟨100000, rfl, by first | (have ek : k = 0 := (by omega); subst ek; exact sg_0f (by omega) (fun z => by have := hg0.mp z; omega)) | (have ek : k = 1 := (by omega); subst ek; exact sg_1f (by omega) (fun z => by have := hg0.mp z; omega)) | (have ek : k = 2 := (by omega); subst ek; exact sg_2f (by omega)) | (exfalso; omega)⟩ hP hD hS
    · have hnk := hnk (by omega)
      obtain ⟨q, rfl⟩ : ∃ q, nbv = q + 1 := ⟨nbv - 1, by omega⟩
      rw [zz_m1s] at hl
      have he0 := hed (q * 64 + a + 8 * b) (by omega)
      have hg0 := hGM q a b (by omega) (by omega) (by omega)
      refine lv_aload_n hx hb dX1_single_27 rfl (lv_at hl 1 rfl) ?_
      refine va_get (D := D) (ci := 1) (v := .ref (r 0)) (C := RX1) (T := TX1) (N := 6) hx hb hts in_X1 hown hK hP 0 rfl rfl 0 (by decide) (hts _ q196) (fun _ h9 => h9) rfl dX1_single_28 ?_
      refine lv_iload_n hx hb dX1_single_31 rfl (lv_at hl 3 rfl) ?_
      refine lv_bipush (v := nI 64) hx hb dX1_single_32 (by decide) ?_
      refine xr_imul hx hb dX1_single_34 ?_
      refine lv_iload_n hx hb dX1_single_35 rfl (lv_at hl 4 rfl) ?_
      refine xr_iadd hx hb dX1_single_36 ?_
      refine lv_bipush (v := nI 8) hx hb dX1_single_37 (by decide) ?_
      refine lv_iload hx hb dX1_single_39 (lv_at hl 5 rfl) ?_
      refine xr_imul hx hb dX1_single_41 ?_
      refine xr_iadd hx hb dX1_single_42 ?_
      refine xr_zald (f := ed) hx hb hK hP 1 1 rfl rfl (by omega) (by decide) dX1_single_43 ?_
      refine lv_istore (lv' := [(5, .int (nI (ed (((q * 64) + a) + (8 * b))))), (0, .ref h), (1, .int (nI k)), (2, .int (nI q)), (3, .int (nI a)), (4, .int (nI b))]) hx hb dX1_single_44 hl (by decide) rfl (fun ls hl => ?_)
      refine lv_goto (tgt := 73) hx hb dX1_single_46 (by decide) ?_
      refine lv_iload hx hb dX1_single_73 (lv_at hl 0 rfl) ?_
      refine xr_if_ne (tgt := 83) hx hb dX1_single_75 (by decide) (by omega) (fun c75 => ?_) (fun c75 => ?_)
      · refine lv_iload_n hx hb dX1_single_83 rfl (lv_at hl 2 rfl) ?_
        refine lv_iconst (v := nI 2) hx hb dX1_single_84 (by decide) ?_
        refine xr_icmp_ne (tgt := 92) hx hb dX1_single_85 (by decide) (by omega) (by omega) (fun c85 => ?_) (fun c85 => ?_)
        · refine lv_iconst (v := nI 1) hx hb dX1_single_92 (by decide) ?_
          exact hend (nI 1) () _ _ _ _ dX1_single_93 rfl ⟨1, rfl, by first | (have ek : k = 0 := (by omega); subst ek; exact sg_0t (by omega) (hg0.mpr (by omega))) | (have ek : k = 1 := (by omega); subst ek; exact sg_1t (by omega) (hg0.mpr (by omega))) | (have ek : k = 2 := (by omega); subst ek; exact sg_2f (by omega)) | (exfalso; omega)⟩ hP hD hS
        · refine lv_iconst (v := nI 0) hx hb dX1_single_88 (by decide) ?_
          refine lv_goto (tgt := 93) hx hb dX1_single_89 (by decide) ?_
          exact hend (nI 0) () _ _ _ _ dX1_single_93 rfl ⟨0, rfl, by first | (have ek : k = 0 := (by omega); subst ek; exact sg_0f (by omega) (fun z => by have := hg0.mp z; omega)) | (have ek : k = 1 := (by omega); subst ek; exact sg_1f (by omega) (fun z => by have := hg0.mp z; omega)) | (have ek : k = 2 := (by omega); subst ek; exact sg_2t (by omega)) | (exfalso; omega)⟩ hP hD hS
      · refine lv_ldc (v := nI 100000) hx hb hown (hts _ q268) dX1_single_78 ?_
        refine lv_goto (tgt := 93) hx hb dX1_single_80 (by decide) ?_
        exact hend (nI 100000) () _ _ _ _ dX1_single_93 rfl ⟨100000, rfl, by first | (have ek : k = 0 := (by omega); subst ek; exact sg_0f (by omega) (fun z => by have := hg0.mp z; omega)) | (have ek : k = 1 := (by omega); subst ek; exact sg_1f (by omega) (fun z => by have := hg0.mp z; omega)) | (have ek : k = 2 := (by omega); subst ek; exact sg_2f (by omega)) | (exfalso; omega)⟩ hP hD hS
  · refine lv_iload_n hx hb dX1_single_6 rfl (lv_at hl 2 rfl) ?_
    refine lv_iconst (v := (-1)) hx hb dX1_single_7 (by decide) ?_
    refine lv_icmp_eq (tgt := 16) hx hb dX1_single_8 (by decide) (fun c8 => ?_) (fun c8 => ?_)
    · refine lv_iconst (v := nI 1) hx hb dX1_single_16 (by decide) ?_
      refine lv_goto (tgt := 21) hx hb dX1_single_17 (by decide) ?_
      (try rw [zz_mn1 (by omega)] at c8); (try rw [zz_mna (by omega) (by omega)] at c13)
      refine lv_istore (lv' := [(5, .int (nI 1)), (0, .ref h), (1, .int (nI k)), (2, .int (nI nbv - 1)), (3, .int (nI a)), (4, .int (nI b))]) hx hb dX1_single_21 hl (by decide) rfl (fun ls hl => ?_)
      refine lv_iload_n hx hb dX1_single_23 rfl (lv_at hl 2 rfl) ?_
      refine xr_if_ne (tgt := 49) hx hb dX1_single_24 (by decide) (by omega) (fun c24 => ?_) (fun c24 => ?_)
      · refine lv_iload_n hx hb dX1_single_49 rfl (lv_at hl 2 rfl) ?_
        refine lv_iconst (v := nI 1) hx hb dX1_single_50 (by decide) ?_
        refine xr_icmp_ne (tgt := 73) hx hb dX1_single_51 (by decide) (by omega) (by omega) (fun c51 => ?_) (fun c51 => ?_)
        · refine lv_iload hx hb dX1_single_73 (lv_at hl 0 rfl) ?_
          refine xr_if_ne (tgt := 83) hx hb dX1_single_75 (by decide) (by omega) (fun c75 => ?_) (fun c75 => ?_)
          · refine lv_iload_n hx hb dX1_single_83 rfl (lv_at hl 2 rfl) ?_
            refine lv_iconst (v := nI 2) hx hb dX1_single_84 (by decide) ?_
            refine xr_icmp_ne (tgt := 92) hx hb dX1_single_85 (by decide) (by omega) (by omega) (fun c85 => ?_) (fun c85 => ?_)
            · refine lv_iconst (v := nI 1) hx hb dX1_single_92 (by decide) ?_
              exact hend (nI 1) () _ _ _ _ dX1_single_93 rfl ⟨1, rfl, by first | (have ek : k = 0 := (by omega); subst ek; exact sg_0t (by omega) (hg0.mpr (by omega))) | (have ek : k = 1 := (by omega); subst ek; exact sg_1t (by omega) (hg0.mpr (by omega))) | (have ek : k = 2 := (by omega); subst ek; exact sg_2f (by omega)) | (exfalso; omega)⟩ hP hD hS
            · refine lv_iconst (v := nI 0) hx hb dX1_single_88 (by decide) ?_
              refine lv_goto (tgt := 93) hx hb dX1_single_89 (by decide) ?_
              exact hend (nI 0) () _ _ _ _ dX1_single_93 rfl ⟨0, rfl, by first | (have ek : k = 0 := (by omega); subst ek; exact sg_0f (by omega) (fun z => by have := hg0.mp z; omega)) | (have ek : k = 1 := (by omega); subst ek; exact sg_1f (by omega) (fun z => by have := hg0.mp z; omega)) | (have ek : k = 2 := (by omega); subst ek; exact sg_2t (by omega)) | (exfalso; omega)⟩ hP hD hS
          · omega
        · have hnk := hnk (by omega)
          obtain ⟨q, rfl⟩ : ∃ q, nbv = q + 1 := ⟨nbv - 1, by omega⟩
          rw [zz_m1s] at hl
          have he0 := hed (q * 64 + b + 8 * a) (by omega)
          have hg0 := hGM q b a (by omega) (by omega) (by omega)
          refine lv_aload_n hx hb dX1_single_54 rfl (lv_at hl 1 rfl) ?_
          refine va_get (D := D) (ci := 1) (v := .ref (r 0)) (C := RX1) (T := TX1) (N := 6) hx hb hts in_X1 hown hK hP 0 rfl rfl 0 (by decide) (hts _ q196) (fun _ h9 => h9) rfl dX1_single_55 ?_
          refine lv_iload_n hx hb dX1_single_58 rfl (lv_at hl 3 rfl) ?_
          refine lv_bipush (v := nI 64) hx hb dX1_single_59 (by decide) ?_
          refine xr_imul hx hb dX1_single_61 ?_
          refine lv_iload hx hb dX1_single_62 (lv_at hl 5 rfl) ?_
          refine xr_iadd hx hb dX1_single_64 ?_
          refine lv_bipush (v := nI 8) hx hb dX1_single_65 (by decide) ?_
          refine lv_iload_n hx hb dX1_single_67 rfl (lv_at hl 4 rfl) ?_
          refine xr_imul hx hb dX1_single_68 ?_
          refine xr_iadd hx hb dX1_single_69 ?_
          refine xr_zald (f := ed) hx hb hK hP 1 1 rfl rfl (by omega) (by decide) dX1_single_70 ?_
          refine lv_istore (lv' := [(5, .int (nI (ed (((q * 64) + b) + (8 * a))))), (0, .ref h), (1, .int (nI k)), (2, .int (nI q)), (3, .int (nI a)), (4, .int (nI b))]) hx hb dX1_single_71 hl (by decide) rfl (fun ls hl => ?_)
          refine lv_iload hx hb dX1_single_73 (lv_at hl 0 rfl) ?_
          refine xr_if_ne (tgt := 83) hx hb dX1_single_75 (by decide) (by omega) (fun c75 => ?_) (fun c75 => ?_)
          · refine lv_iload_n hx hb dX1_single_83 rfl (lv_at hl 2 rfl) ?_
            refine lv_iconst (v := nI 2) hx hb dX1_single_84 (by decide) ?_
            refine xr_icmp_ne (tgt := 92) hx hb dX1_single_85 (by decide) (by omega) (by omega) (fun c85 => ?_) (fun c85 => ?_)
            · refine lv_iconst (v := nI 1) hx hb dX1_single_92 (by decide) ?_
              exact hend (nI 1) () _ _ _ _ dX1_single_93 rfl ⟨1, rfl, by first | (have ek : k = 0 := (by omega); subst ek; exact sg_0t (by omega) (hg0.mpr (by omega))) | (have ek : k = 1 := (by omega); subst ek; exact sg_1t (by omega) (hg0.mpr (by omega))) | (have ek : k = 2 := (by omega); subst ek; exact sg_2f (by omega)) | (exfalso; omega)⟩ hP hD hS
            · refine lv_iconst (v := nI 0) hx hb dX1_single_88 (by decide) ?_
              refine lv_goto (tgt := 93) hx hb dX1_single_89 (by decide) ?_
              exact hend (nI 0) () _ _ _ _ dX1_single_93 rfl ⟨0, rfl, by first | (have ek : k = 0 := (by omega); subst ek; exact sg_0f (by omega) (fun z => by have := hg0.mp z; omega)) | (have ek : k = 1 := (by omega); subst ek; exact sg_1f (by omega) (fun z => by have := hg0.mp z; omega)) | (have ek : k = 2 := (by omega); subst ek; exact sg_2t (by omega)) | (exfalso; omega)⟩ hP hD hS
          · refine lv_ldc (v := nI 100000) hx hb hown (hts _ q268) dX1_single_78 ?_
            refine lv_goto (tgt := 93) hx hb dX1_single_80 (by decide) ?_
            exact hend (nI 100000) () _ _ _ _ dX1_single_93 rfl ⟨100000, rfl, by first | (have ek : k = 0 := (by omega); subst ek; exact sg_0f (by omega) (fun z => by have := hg0.mp z; omega)) | (have ek : k = 1 := (by omega); subst ek; exact sg_1f (by omega) (fun z => by have := hg0.mp z; omega)) | (have ek : k = 2 := (by omega); subst ek; exact sg_2f (by omega)) | (exfalso; omega)⟩ hP hD hS
      · have hnk := hnk (by omega)
        obtain ⟨q, rfl⟩ : ∃ q, nbv = q + 1 := ⟨nbv - 1, by omega⟩
        rw [zz_m1s] at hl
        have he0 := hed (q * 64 + a + 8 * b) (by omega)
        have hg0 := hGM q a b (by omega) (by omega) (by omega)
        refine lv_aload_n hx hb dX1_single_27 rfl (lv_at hl 1 rfl) ?_
        refine va_get (D := D) (ci := 1) (v := .ref (r 0)) (C := RX1) (T := TX1) (N := 6) hx hb hts in_X1 hown hK hP 0 rfl rfl 0 (by decide) (hts _ q196) (fun _ h9 => h9) rfl dX1_single_28 ?_
        refine lv_iload_n hx hb dX1_single_31 rfl (lv_at hl 3 rfl) ?_
        refine lv_bipush (v := nI 64) hx hb dX1_single_32 (by decide) ?_
        refine xr_imul hx hb dX1_single_34 ?_
        refine lv_iload_n hx hb dX1_single_35 rfl (lv_at hl 4 rfl) ?_
        refine xr_iadd hx hb dX1_single_36 ?_
        refine lv_bipush (v := nI 8) hx hb dX1_single_37 (by decide) ?_
        refine lv_iload hx hb dX1_single_39 (lv_at hl 5 rfl) ?_
        refine xr_imul hx hb dX1_single_41 ?_
        refine xr_iadd hx hb dX1_single_42 ?_
        refine xr_zald (f := ed) hx hb hK hP 1 1 rfl rfl (by omega) (by decide) dX1_single_43 ?_
        refine lv_istore (lv' := [(5, .int (nI (ed (((q * 64) + a) + (8 * b))))), (0, .ref h), (1, .int (nI k)), (2, .int (nI q)), (3, .int (nI a)), (4, .int (nI b))]) hx hb dX1_single_44 hl (by decide) rfl (fun ls hl => ?_)
        refine lv_goto (tgt := 73) hx hb dX1_single_46 (by decide) ?_
        refine lv_iload hx hb dX1_single_73 (lv_at hl 0 rfl) ?_
        refine xr_if_ne (tgt := 83) hx hb dX1_single_75 (by decide) (by omega) (fun c75 => ?_) (fun c75 => ?_)
        · refine lv_iload_n hx hb dX1_single_83 rfl (lv_at hl 2 rfl) ?_
          refine lv_iconst (v := nI 2) hx hb dX1_single_84 (by decide) ?_
          refine xr_icmp_ne (tgt := 92) hx hb dX1_single_85 (by decide) (by omega) (by omega) (fun c85 => ?_) (fun c85 => ?_)
          · refine lv_iconst (v := nI 1) hx hb dX1_single_92 (by decide) ?_
            exact hend (nI 1) () _ _ _ _ dX1_single_93 rfl ⟨1, rfl, by first | (have ek : k = 0 := (by omega); subst ek; exact sg_0t (by omega) (hg0.mpr (by omega))) | (have ek : k = 1 := (by omega); subst ek; exact sg_1t (by omega) (hg0.mpr (by omega))) | (have ek : k = 2 := (by omega); subst ek; exact sg_2f (by omega)) | (exfalso; omega)⟩ hP hD hS
          · refine lv_iconst (v := nI 0) hx hb dX1_single_88 (by decide) ?_
            refine lv_goto (tgt := 93) hx hb dX1_single_89 (by decide) ?_
            exact hend (nI 0) () _ _ _ _ dX1_single_93 rfl ⟨0, rfl, by first | (have ek : k = 0 := (by omega); subst ek; exact sg_0f (by omega) (fun z => by have := hg0.mp z; omega)) | (have ek : k = 1 := (by omega); subst ek; exact sg_1f (by omega) (fun z => by have := hg0.mp z; omega)) | (have ek : k = 2 := (by omega); subst ek; exact sg_2t (by omega)) | (exfalso; omega)⟩ hP hD hS
        · refine lv_ldc (v := nI 100000) hx hb hown (hts _ q268) dX1_single_78 ?_
          refine lv_goto (tgt := 93) hx hb dX1_single_80 (by decide) ?_
          exact hend (nI 100000) () _ _ _ _ dX1_single_93 rfl ⟨100000, rfl, by first | (have ek : k = 0 := (by omega); subst ek; exact sg_0f (by omega) (fun z => by have := hg0.mp z; omega)) | (have ek : k = 1 := (by omega); subst ek; exact sg_1f (by omega) (fun z => by have := hg0.mp z; omega)) | (have ek : k = 2 := (by omega); subst ek; exact sg_2f (by omega)) | (exfalso; omega)⟩ hP hD hS
    · refine lv_iload_n hx hb dX1_single_11 rfl (lv_at hl 2 rfl) ?_
      refine lv_iload_n hx hb dX1_single_12 rfl (lv_at hl 3 rfl) ?_
      refine lv_icmp_ne (tgt := 20) hx hb dX1_single_13 (by decide) (fun c13 => ?_) (fun c13 => ?_)
      · refine lv_iconst (v := nI 0) hx hb dX1_single_20 (by decide) ?_
        (try rw [zz_mn1 (by omega)] at c8); (try rw [zz_mna (by omega) (by omega)] at c13)
        refine lv_istore (lv' := [(5, .int (nI 0)), (0, .ref h), (1, .int (nI k)), (2, .int (nI nbv - 1)), (3, .int (nI a)), (4, .int (nI b))]) hx hb dX1_single_21 hl (by decide) rfl (fun ls hl => ?_)
        refine lv_iload_n hx hb dX1_single_23 rfl (lv_at hl 2 rfl) ?_
        refine xr_if_ne (tgt := 49) hx hb dX1_single_24 (by decide) (by omega) (fun c24 => ?_) (fun c24 => ?_)
        · refine lv_iload_n hx hb dX1_single_49 rfl (lv_at hl 2 rfl) ?_
          refine lv_iconst (v := nI 1) hx hb dX1_single_50 (by decide) ?_
          refine xr_icmp_ne (tgt := 73) hx hb dX1_single_51 (by decide) (by omega) (by omega) (fun c51 => ?_) (fun c51 => ?_)
          · refine lv_iload hx hb dX1_single_73 (lv_at hl 0 rfl) ?_
            refine xr_if_ne (tgt := 83) hx hb dX1_single_75 (by decide) (by omega) (fun c75 => ?_) (fun c75 => ?_)
            · omega
            · refine lv_ldc (v := nI 100000) hx hb hown (hts _ q268) dX1_single_78 ?_
              refine lv_goto (tgt := 93) hx hb dX1_single_80 (by decide) ?_
              exact hend (nI 100000) () _ _ _ _ dX1_single_93 rfl ⟨100000, rfl, by first | (have ek : k = 0 := (by omega); subst ek; exact sg_0f (by omega) (fun z => by have := hg0.mp z; omega)) | (have ek : k = 1 := (by omega); subst ek; exact sg_1f (by omega) (fun z => by have := hg0.mp z; omega)) | (have ek : k = 2 := (by omega); subst ek; exact sg_2f (by omega)) | (exfalso; omega)⟩ hP hD hS
          · have hnk := hnk (by omega)
            obtain ⟨q, rfl⟩ : ∃ q, nbv = q + 1 := ⟨nbv - 1, by omega⟩
            rw [zz_m1s] at hl
            have he0 := hed (q * 64 + b + 8 * a) (by omega)
            have hg0 := hGM q b a (by omega) (by omega) (by omega)
            refine lv_aload_n hx hb dX1_single_54 rfl (lv_at hl 1 rfl) ?_
            refine va_get (D := D) (ci := 1) (v := .ref (r 0)) (C := RX1) (T := TX1) (N := 6) hx hb hts in_X1 hown hK hP 0 rfl rfl 0 (by decide) (hts _ q196) (fun _ h9 => h9) rfl dX1_single_55 ?_
            refine lv_iload_n hx hb dX1_single_58 rfl (lv_at hl 3 rfl) ?_
            refine lv_bipush (v := nI 64) hx hb dX1_single_59 (by decide) ?_
            refine xr_imul hx hb dX1_single_61 ?_
            refine lv_iload hx hb dX1_single_62 (lv_at hl 5 rfl) ?_
            refine xr_iadd hx hb dX1_single_64 ?_
            refine lv_bipush (v := nI 8) hx hb dX1_single_65 (by decide) ?_
            refine lv_iload_n hx hb dX1_single_67 rfl (lv_at hl 4 rfl) ?_
            refine xr_imul hx hb dX1_single_68 ?_
            refine xr_iadd hx hb dX1_single_69 ?_
            refine xr_zald (f := ed) hx hb hK hP 1 1 rfl rfl (by omega) (by decide) dX1_single_70 ?_
            refine lv_istore (lv' := [(5, .int (nI (ed (((q * 64) + b) + (8 * a))))), (0, .ref h), (1, .int (nI k)), (2, .int (nI q)), (3, .int (nI a)), (4, .int (nI b))]) hx hb dX1_single_71 hl (by decide) rfl (fun ls hl => ?_)
            refine lv_iload hx hb dX1_single_73 (lv_at hl 0 rfl) ?_
            refine xr_if_ne (tgt := 83) hx hb dX1_single_75 (by decide) (by omega) (fun c75 => ?_) (fun c75 => ?_)
            · refine lv_iload_n hx hb dX1_single_83 rfl (lv_at hl 2 rfl) ?_
              refine lv_iconst (v := nI 2) hx hb dX1_single_84 (by decide) ?_
              refine xr_icmp_ne (tgt := 92) hx hb dX1_single_85 (by decide) (by omega) (by omega) (fun c85 => ?_) (fun c85 => ?_)
              · refine lv_iconst (v := nI 1) hx hb dX1_single_92 (by decide) ?_
                exact hend (nI 1) () _ _ _ _ dX1_single_93 rfl ⟨1, rfl, by first | (have ek : k = 0 := (by omega); subst ek; exact sg_0t (by omega) (hg0.mpr (by omega))) | (have ek : k = 1 := (by omega); subst ek; exact sg_1t (by omega) (hg0.mpr (by omega))) | (have ek : k = 2 := (by omega); subst ek; exact sg_2f (by omega)) | (exfalso; omega)⟩ hP hD hS
              · refine lv_iconst (v := nI 0) hx hb dX1_single_88 (by decide) ?_
                refine lv_goto (tgt := 93) hx hb dX1_single_89 (by decide) ?_
                exact hend (nI 0) () _ _ _ _ dX1_single_93 rfl ⟨0, rfl, by first | (have ek : k = 0 := (by omega); subst ek; exact sg_0f (by omega) (fun z => by have := hg0.mp z; omega)) | (have ek : k = 1 := (by omega); subst ek; exact sg_1f (by omega) (fun z => by have := hg0.mp z; omega)) | (have ek : k = 2 := (by omega); subst ek; exact sg_2t (by omega)) | (exfalso; omega)⟩ hP hD hS
            · refine lv_ldc (v := nI 100000) hx hb hown (hts _ q268) dX1_single_78 ?_
              refine lv_goto (tgt := 93) hx hb dX1_single_80 (by decide) ?_
              exact hend (nI 100000) () _ _ _ _ dX1_single_93 rfl ⟨100000, rfl, by first | (have ek : k = 0 := (by omega); subst ek; exact sg_0f (by omega) (fun z => by have := hg0.mp z; omega)) | (have ek : k = 1 := (by omega); subst ek; exact sg_1f (by omega) (fun z => by have := hg0.mp z; omega)) | (have ek : k = 2 := (by omega); subst ek; exact sg_2f (by omega)) | (exfalso; omega)⟩ hP hD hS
        · have hnk := hnk (by omega)
          obtain ⟨q, rfl⟩ : ∃ q, nbv = q + 1 := ⟨nbv - 1, by omega⟩
          rw [zz_m1s] at hl
          have he0 := hed (q * 64 + a + 8 * b) (by omega)
          have hg0 := hGM q a b (by omega) (by omega) (by omega)
          refine lv_aload_n hx hb dX1_single_27 rfl (lv_at hl 1 rfl) ?_
          refine va_get (D := D) (ci := 1) (v := .ref (r 0)) (C := RX1) (T := TX1) (N := 6) hx hb hts in_X1 hown hK hP 0 rfl rfl 0 (by decide) (hts _ q196) (fun _ h9 => h9) rfl dX1_single_28 ?_
          refine lv_iload_n hx hb dX1_single_31 rfl (lv_at hl 3 rfl) ?_
          refine lv_bipush (v := nI 64) hx hb dX1_single_32 (by decide) ?_
          refine xr_imul hx hb dX1_single_34 ?_
          refine lv_iload_n hx hb dX1_single_35 rfl (lv_at hl 4 rfl) ?_
          refine xr_iadd hx hb dX1_single_36 ?_
          refine lv_bipush (v := nI 8) hx hb dX1_single_37 (by decide) ?_
          refine lv_iload hx hb dX1_single_39 (lv_at hl 5 rfl) ?_
          refine xr_imul hx hb dX1_single_41 ?_
          refine xr_iadd hx hb dX1_single_42 ?_
          refine xr_zald (f := ed) hx hb hK hP 1 1 rfl rfl (by omega) (by decide) dX1_single_43 ?_
          refine lv_istore (lv' := [(5, .int (nI (ed (((q * 64) + a) + (8 * b))))), (0, .ref h), (1, .int (nI k)), (2, .int (nI q)), (3, .int (nI a)), (4, .int (nI b))]) hx hb dX1_single_44 hl (by decide) rfl (fun ls hl => ?_)
          refine lv_goto (tgt := 73) hx hb dX1_single_46 (by decide) ?_
          refine lv_iload hx hb dX1_single_73 (lv_at hl 0 rfl) ?_
          refine xr_if_ne (tgt := 83) hx hb dX1_single_75 (by decide) (by omega) (fun c75 => ?_) (fun c75 => ?_)
          · refine lv_iload_n hx hb dX1_single_83 rfl (lv_at hl 2 rfl) ?_
            refine lv_iconst (v := nI 2) hx hb dX1_single_84 (by decide) ?_
            refine xr_icmp_ne (tgt := 92) hx hb dX1_single_85 (by decide) (by omega) (by omega) (fun c85 => ?_) (fun c85 => ?_)
            · refine lv_iconst (v := nI 1) hx hb dX1_single_92 (by decide) ?_
              exact hend (nI 1) () _ _ _ _ dX1_single_93 rfl ⟨1, rfl, by first | (have ek : k = 0 := (by omega); subst ek; exact sg_0t (by omega) (hg0.mpr (by omega))) | (have ek : k = 1 := (by omega); subst ek; exact sg_1t (by omega) (hg0.mpr (by omega))) | (have ek : k = 2 := (by omega); subst ek; exact sg_2f (by omega)) | (exfalso; omega)⟩ hP hD hS
            · refine lv_iconst (v := nI 0) hx hb dX1_single_88 (by decide) ?_
              refine lv_goto (tgt := 93) hx hb dX1_single_89 (by decide) ?_
              exact hend (nI 0) () _ _ _ _ dX1_single_93 rfl ⟨0, rfl, by first | (have ek : k = 0 := (by omega); subst ek; exact sg_0f (by omega) (fun z => by have := hg0.mp z; omega)) | (have ek : k = 1 := (by omega); subst ek; exact sg_1f (by omega) (fun z => by have := hg0.mp z; omega)) | (have ek : k = 2 := (by omega); subst ek; exact sg_2t (by omega)) | (exfalso; omega)⟩ hP hD hS
          · refine lv_ldc (v := nI 100000) hx hb hown (hts _ q268) dX1_single_78 ?_
            refine lv_goto (tgt := 93) hx hb dX1_single_80 (by decide) ?_
            exact hend (nI 100000) () _ _ _ _ dX1_single_93 rfl ⟨100000, rfl, by first | (have ek : k = 0 := (by omega); subst ek; exact sg_0f (by omega) (fun z => by have := hg0.mp z; omega)) | (have ek : k = 1 := (by omega); subst ek; exact sg_1f (by omega) (fun z => by have := hg0.mp z; omega)) | (have ek : k = 2 := (by omega); subst ek; exact sg_2f (by omega)) | (exfalso; omega)⟩ hP hD hS
      · refine lv_iconst (v := nI 1) hx hb dX1_single_16 (by decide) ?_
        refine lv_goto (tgt := 21) hx hb dX1_single_17 (by decide) ?_
        (try rw [zz_mn1 (by omega)] at c8); (try rw [zz_mna (by omega) (by omega)] at c13)
        refine lv_istore (lv' := [(5, .int (nI 1)), (0, .ref h), (1, .int (nI k)), (2, .int (nI nbv - 1)), (3, .int (nI a)), (4, .int (nI b))]) hx hb dX1_single_21 hl (by decide) rfl (fun ls hl => ?_)
        refine lv_iload_n hx hb dX1_single_23 rfl (lv_at hl 2 rfl) ?_
        refine xr_if_ne (tgt := 49) hx hb dX1_single_24 (by decide) (by omega) (fun c24 => ?_) (fun c24 => ?_)
        · refine lv_iload_n hx hb dX1_single_49 rfl (lv_at hl 2 rfl) ?_
          refine lv_iconst (v := nI 1) hx hb dX1_single_50 (by decide) ?_
          refine xr_icmp_ne (tgt := 73) hx hb dX1_single_51 (by decide) (by omega) (by omega) (fun c51 => ?_) (fun c51 => ?_)
          · refine lv_iload hx hb dX1_single_73 (lv_at hl 0 rfl) ?_
            refine xr_if_ne (tgt := 83) hx hb dX1_single_75 (by decide) (by omega) (fun c75 => ?_) (fun c75 => ?_)
            · refine lv_iload_n hx hb dX1_single_83 rfl (lv_at hl 2 rfl) ?_
              refine lv_iconst (v := nI 2) hx hb dX1_single_84 (by decide) ?_
              refine xr_icmp_ne (tgt := 92) hx hb dX1_single_85 (by decide) (by omega) (by omega) (fun c85 => ?_) (fun c85 => ?_)
              · refine lv_iconst (v := nI 1) hx hb dX1_single_92 (by decide) ?_
                exact hend (nI 1) () _ _ _ _ dX1_single_93 rfl ⟨1, rfl, by first | (have ek : k = 0 := (by omega); subst ek; exact sg_0t (by omega) (hg0.mpr (by omega))) | (have ek : k = 1 := (by omega); subst ek; exact sg_1t (by omega) (hg0.mpr (by omega))) | (have ek : k = 2 := (by omega); subst ek; exact sg_2f (by omega)) | (exfalso; omega)⟩ hP hD hS
              · refine lv_iconst (v := nI 0) hx hb dX1_single_88 (by decide) ?_
                refine lv_goto (tgt := 93) hx hb dX1_single_89 (by decide) ?_
                exact hend (nI 0) () _ _ _ _ dX1_single_93 rfl ⟨0, rfl, by first | (have ek : k = 0 := (by omega); subst ek; exact sg_0f (by omega) (fun z => by have := hg0.mp z; omega)) | (have ek : k = 1 := (by omega); subst ek; exact sg_1f (by omega) (fun z => by have := hg0.mp z; omega)) | (have ek : k = 2 := (by omega); subst ek; exact sg_2t (by omega)) | (exfalso; omega)⟩ hP hD hS
            · omega
          · have hnk := hnk (by omega)
            obtain ⟨q, rfl⟩ : ∃ q, nbv = q + 1 := ⟨nbv - 1, by omega⟩
            rw [zz_m1s] at hl
            have he0 := hed (q * 64 + b + 8 * a) (by omega)
            have hg0 := hGM q b a (by omega) (by omega) (by omega)
            refine lv_aload_n hx hb dX1_single_54 rfl (lv_at hl 1 rfl) ?_
            refine va_get (D := D) (ci := 1) (v := .ref (r 0)) (C := RX1) (T := TX1) (N := 6) hx hb hts in_X1 hown hK hP 0 rfl rfl 0 (by decide) (hts _ q196) (fun _ h9 => h9) rfl dX1_single_55 ?_
            refine lv_iload_n hx hb dX1_single_58 rfl (lv_at hl 3 rfl) ?_
            refine lv_bipush (v := nI 64) hx hb dX1_single_59 (by decide) ?_
            refine xr_imul hx hb dX1_single_61 ?_
            refine lv_iload hx hb dX1_single_62 (lv_at hl 5 rfl) ?_
            refine xr_iadd hx hb dX1_single_64 ?_
            refine lv_bipush (v := nI 8) hx hb dX1_single_65 (by decide) ?_
            refine lv_iload_n hx hb dX1_single_67 rfl (lv_at hl 4 rfl) ?_
            refine xr_imul hx hb dX1_single_68 ?_
            refine xr_iadd hx hb dX1_single_69 ?_
            refine xr_zald (f := ed) hx hb hK hP 1 1 rfl rfl (by omega) (by decide) dX1_single_70 ?_
            refine lv_istore (lv' := [(5, .int (nI (ed (((q * 64) + b) + (8 * a))))), (0, .ref h), (1, .int (nI k)), (2, .int (nI q)), (3, .int (nI a)), (4, .int (nI b))]) hx hb dX1_single_71 hl (by decide) rfl (fun ls hl => ?_)
            refine lv_iload hx hb dX1_single_73 (lv_at hl 0 rfl) ?_
            refine xr_if_ne (tgt := 83) hx hb dX1_single_75 (by decide) (by omega) (fun c75 => ?_) (fun c75 => ?_)
            · refine lv_iload_n hx hb dX1_single_83 rfl (lv_at hl 2 rfl) ?_
              refine lv_iconst (v := nI 2) hx hb dX1_single_84 (by decide) ?_
              refine xr_icmp_ne (tgt := 92) hx hb dX1_single_85 (by decide) (by omega) (by omega) (fun c85 => ?_) (fun c85 => ?_)
              · refine lv_iconst (v := nI 1) hx hb dX1_single_92 (by decide) ?_
                exact hend (nI 1) () _ _ _ _ dX1_single_93 rfl ⟨1, rfl, by first | (have ek : k = 0 := (by omega); subst ek; exact sg_0t (by omega) (hg0.mpr (by omega))) | (have ek : k = 1 := (by omega); subst ek; exact sg_1t (by omega) (hg0.mpr (by omega))) | (have ek : k = 2 := (by omega); subst ek; exact sg_2f (by omega)) | (exfalso; omega)⟩ hP hD hS
              · refine lv_iconst (v := nI 0) hx hb dX1_single_88 (by decide) ?_
                refine lv_goto (tgt := 93) hx hb dX1_single_89 (by decide) ?_
                exact hend (nI 0) () _ _ _ _ dX1_single_93 rfl ⟨0, rfl, by first | (have ek : k = 0 := (by omega); subst ek; exact sg_0f (by omega) (fun z => by have := hg0.mp z; omega)) | (have ek : k = 1 := (by omega); subst ek; exact sg_1f (by omega) (fun z => by have := hg0.mp z; omega)) | (have ek : k = 2 := (by omega); subst ek; exact sg_2t (by omega)) | (exfalso; omega)⟩ hP hD hS
            · refine lv_ldc (v := nI 100000) hx hb hown (hts _ q268) dX1_single_78 ?_
              refine lv_goto (tgt := 93) hx hb dX1_single_80 (by decide) ?_
              exact hend (nI 100000) () _ _ _ _ dX1_single_93 rfl ⟨100000, rfl, by first | (have ek : k = 0 := (by omega); subst ek; exact sg_0f (by omega) (fun z => by have := hg0.mp z; omega)) | (have ek : k = 1 := (by omega); subst ek; exact sg_1f (by omega) (fun z => by have := hg0.mp z; omega)) | (have ek : k = 2 := (by omega); subst ek; exact sg_2f (by omega)) | (exfalso; omega)⟩ hP hD hS
        · have hnk := hnk (by omega)
          obtain ⟨q, rfl⟩ : ∃ q, nbv = q + 1 := ⟨nbv - 1, by omega⟩
          rw [zz_m1s] at hl
          have he0 := hed (q * 64 + a + 8 * b) (by omega)
          have hg0 := hGM q a b (by omega) (by omega) (by omega)
          refine lv_aload_n hx hb dX1_single_27 rfl (lv_at hl 1 rfl) ?_
          refine va_get (D := D) (ci := 1) (v := .ref (r 0)) (C := RX1) (T := TX1) (N := 6) hx hb hts in_X1 hown hK hP 0 rfl rfl 0 (by decide) (hts _ q196) (fun _ h9 => h9) rfl dX1_single_28 ?_
          refine lv_iload_n hx hb dX1_single_31 rfl (lv_at hl 3 rfl) ?_
          refine lv_bipush (v := nI 64) hx hb dX1_single_32 (by decide) ?_
          refine xr_imul hx hb dX1_single_34 ?_
          refine lv_iload_n hx hb dX1_single_35 rfl (lv_at hl 4 rfl) ?_
          refine xr_iadd hx hb dX1_single_36 ?_
          refine lv_bipush (v := nI 8) hx hb dX1_single_37 (by decide) ?_
          refine lv_iload hx hb dX1_single_39 (lv_at hl 5 rfl) ?_
          refine xr_imul hx hb dX1_single_41 ?_
          refine xr_iadd hx hb dX1_single_42 ?_
          refine xr_zald (f := ed) hx hb hK hP 1 1 rfl rfl (by omega) (by decide) dX1_single_43 ?_
          refine lv_istore (lv' := [(5, .int (nI (ed (((q * 64) + a) + (8 * b))))), (0, .ref h), (1, .int (nI k)), (2, .int (nI q)), (3, .int (nI a)), (4, .int (nI b))]) hx hb dX1_single_44 hl (by decide) rfl (fun ls hl => ?_)
          refine lv_goto (tgt := 73) hx hb dX1_single_46 (by decide) ?_
          refine lv_iload hx hb dX1_single_73 (lv_at hl 0 rfl) ?_
          refine xr_if_ne (tgt := 83) hx hb dX1_single_75 (by decide) (by omega) (fun c75 => ?_) (fun c75 => ?_)
          · refine lv_iload_n hx hb dX1_single_83 rfl (lv_at hl 2 rfl) ?_
            refine lv_iconst (v := nI 2) hx hb dX1_single_84 (by decide) ?_
            refine xr_icmp_ne (tgt := 92) hx hb dX1_single_85 (by decide) (by omega) (by omega) (fun c85 => ?_) (fun c85 => ?_)
            · refine lv_iconst (v := nI 1) hx hb dX1_single_92 (by decide) ?_
              exact hend (nI 1) () _ _ _ _ dX1_single_93 rfl ⟨1, rfl, by first | (have ek : k = 0 := (by omega); subst ek; exact sg_0t (by omega) (hg0.mpr (by omega))) | (have ek : k = 1 := (by omega); subst ek; exact sg_1t (by omega) (hg0.mpr (by omega))) | (have ek : k = 2 := (by omega); subst ek; exact sg_2f (by omega)) | (exfalso; omega)⟩ hP hD hS
            · refine lv_iconst (v := nI 0) hx hb dX1_single_88 (by decide) ?_
              refine lv_goto (tgt := 93) hx hb dX1_single_89 (by decide) ?_
              exact hend (nI 0) () _ _ _ _ dX1_single_93 rfl ⟨0, rfl, by first | (have ek : k = 0 := (by omega); subst ek; exact sg_0f (by omega) (fun z => by have := hg0.mp z; omega)) | (have ek : k = 1 := (by omega); subst ek; exact sg_1f (by omega) (fun z => by have := hg0.mp z; omega)) | (have ek : k = 2 := (by omega); subst ek; exact sg_2t (by omega)) | (exfalso; omega)⟩ hP hD hS
          · refine lv_ldc (v := nI 100000) hx hb hown (hts _ q268) dX1_single_78 ?_
            refine lv_goto (tgt := 93) hx hb dX1_single_80 (by decide) ?_
            exact hend (nI 100000) () _ _ _ _ dX1_single_93 rfl ⟨100000, rfl, by first | (have ek : k = 0 := (by omega); subst ek; exact sg_0f (by omega) (fun z => by have := hg0.mp z; omega)) | (have ek : k = 1 := (by omega); subst ek; exact sg_1f (by omega) (fun z => by have := hg0.mp z; omega)) | (have ek : k = 2 := (by omega); subst ek; exact sg_2f (by omega)) | (exfalso; omega)⟩ hP hD hS
def jf (tb : Nat → Nat) (o p : Nat) : Nat → Nat := fun m => tb (o + p / 8 * 8 + m) + tb (o + 64 + m * 8 + p % 8)
set_option maxHeartbeats 4000000 in
set_option maxRecDepth 100000 in
theorem M_join (l : Launch) (D : va_G) (cI cZ : ClassId) (h : Nat) (r : Nat → Nat) (mk hg : Nat) (ed kn nb tb : Nat → Nat) (v : Nat) (hv : v ≤ 4) (h1 : ∀ p, p < 128 → tb (v * 64 + p) ≤ 100000) :
    ct_v l yX1_join cX1_join 7 (rmL 1 22) D (tyL cI cZ) [.ref h, .int (nI v)] (mw cI cZ h r mk hg ed kn nb tb) (Nat → Nat) (fun u => (∀ j, j < v * 64 → u j = tb j) ∧ ∀ p, p < 64 → u (v * 64 + p) = jm (jf tb (v * 64) p) 8) (fun u => mw cI cZ h r mk hg ed kn nb u) := by
  refine ct_v_of (by decide) (Nat.le_of_ble_eq_true rfl) ?_
  intro p e s m args below meth c A Q ls F hK hP hD hS hA hend hl
  have F : CallFix p m c cX1_join 7 s args lw_all RX1 := F
  obtain ⟨hx, hb, hml, hown, hts⟩ := id F
  have hl : lv_has ls 7 [(0, .ref h), (1, .int (nI v))] := hl
  refine lv_iconst (v := nI 0) hx hb dX1_join_0 (by decide) ?_
  refine lv_istore_n (lv' := [(2, .int (nI 0)), (0, .ref h), (1, .int (nI v))]) hx hb dX1_join_1 rfl hl (by decide) rfl (fun ls hl => ?_)
  have loop : ∀ (n : Nat) (q : Nat) (tb1 : Nat → Nat) (H : Heap) (locs : List Loc) (ls : Array Slot), (q ≤ 64) → (65 ≤ q + n) → (∀ z, z < v * 64 + 128 → tb1 z = tb z) → (∀ z, z < q → tb1 (v * 64 + 128 + z) = jm (jf tb (v * 64) z) 8) → va_P D vwCl (mw cI cZ h r mk hg ed kn nb tb1) H → va_D A (mw cI cZ h r mk hg ed kn nb tb1) → va_S A s.heap H locs → lv_has ls 7 [(0, .ref h), (1, .int (nI v)), (2, .int (nI q))] → W p l e (rmL 1 22) s m args below meth c H locs 0 0 Q (F0 m 2 ls []) := by
    intro n
    induction n with
    | zero =>
      intro q tb1 H locs ls hq0 hn hk1 hk2 hP hD hS hl
      omega
    | succ n ih =>
      intro q tb1 H locs ls hq0 hn hk1 hk2 hP hD hS hl
      refine lv_iload_n hx hb dX1_join_2 rfl (lv_at hl 2 rfl) ?_
      refine lv_bipush (v := nI 64) hx hb dX1_join_3 (by decide) ?_
      refine xr_icmp_ge (tgt := 107) hx hb dX1_join_5 (by decide) (by omega) (by omega) (fun c5 => ?_) (fun c5 => ?_)
      · refine lv_iconst (v := nI 0) hx hb dX1_join_107 (by decide) ?_
        refine lv_istore_n (lv' := [(2, .int (nI 0)), (0, .ref h), (1, .int (nI v))]) hx hb dX1_join_108 rfl hl (by decide) rfl (fun ls hl => ?_)
        have loop3 : ∀ (n3 : Nat) (j : Nat) (tb2 : Nat → Nat) (H : Heap) (locs : List Loc) (ls : Array Slot), (j ≤ 64) → (65 ≤ j + n3) → (∀ z, z < v * 64 → tb2 z = tb z) → (∀ z, z < 64 → tb2 (v * 64 + 128 + z) = jm (jf tb (v * 64) z) 8) → (∀ z, z < j → tb2 (v * 64 + z) = jm (jf tb (v * 64) z) 8) → va_P D vwCl (mw cI cZ h r mk hg ed kn nb tb2) H → va_D A (mw cI cZ h r mk hg ed kn nb tb2) → va_S A s.heap H locs → lv_has ls 7 [(0, .ref h), (1, .int (nI v)), (2, .int (nI j))] → W p l e (rmL 1 22) s m args below meth c H locs 0 0 Q (F0 m 109 ls []) := by
          intro n3
          induction n3 with
          | zero =>
            intro j tb2 H locs ls hj hn3 hm1 hm2 hm3 hP hD hS hl
            omega
          | succ n3 ih3 =>
            intro j tb2 H locs ls hj hn3 hm1 hm2 hm3 hP hD hS hl
            refine lv_iload_n hx hb dX1_join_109 rfl (lv_at hl 2 rfl) ?_
            refine lv_bipush (v := nI 64) hx hb dX1_join_110 (by decide) ?_
            refine xr_icmp_ge (tgt := 147) hx hb dX1_join_112 (by decide) (by omega) (by omega) (fun c112 => ?_) (fun c112 => ?_)
            · exact hend tb2 _ _ _ _ dX1_join_147 ⟨hm1, fun z hz => hm3 z (by omega)⟩ hP hD hS
            · refine lv_aload_n hx hb dX1_join_115 rfl (lv_at hl 0 rfl) ?_
              refine va_get (D := D) (ci := 1) (v := .ref (r 3)) (C := RX1) (T := TX1) (N := 6) hx hb hts in_X1 hown hK hP 0 rfl rfl 5 (by decide) (hts _ q201) (fun _ h9 => h9) rfl dX1_join_116 ?_
              refine lv_iload_n hx hb dX1_join_119 rfl (lv_at hl 1 rfl) ?_
              refine lv_bipush (v := nI 64) hx hb dX1_join_120 (by decide) ?_
              refine xr_imul hx hb dX1_join_122 ?_
              refine lv_iload_n hx hb dX1_join_123 rfl (lv_at hl 2 rfl) ?_
              refine xr_iadd hx hb dX1_join_124 ?_
              refine lv_aload_n hx hb dX1_join_125 rfl (lv_at hl 0 rfl) ?_
              refine va_get (D := D) (ci := 1) (v := .ref (r 3)) (C := RX1) (T := TX1) (N := 6) hx hb hts in_X1 hown hK hP 0 rfl rfl 5 (by decide) (hts _ q201) (fun _ h9 => h9) rfl dX1_join_126 ?_
              refine lv_iload_n hx hb dX1_join_129 rfl (lv_at hl 1 rfl) ?_
              refine lv_bipush (v := nI 64) hx hb dX1_join_130 (by decide) ?_
              refine xr_imul hx hb dX1_join_132 ?_
              refine lv_sipush (v := nI 128) hx hb dX1_join_133 (by decide) ?_
              refine xr_iadd hx hb dX1_join_136 ?_
              refine lv_iload_n hx hb dX1_join_137 rfl (lv_at hl 2 rfl) ?_
              refine xr_iadd hx hb dX1_join_138 ?_
              refine xr_iald (f := tb2) hx hb hK hP 4 0 rfl rfl (by omega) (by decide) dX1_join_139 ?_
              rw [hm2 j c112]
              refine xr_iast (f := tb2) hx hb hK hP hD hS 4 0 rfl rfl (by omega) (by decide) dX1_join_140 (fun H locs hP hD hS => ?_)
              have hP : va_P D vwCl (mw cI cZ h r mk hg ed kn nb (va_up tb2 ((v * 64) + j) (jm (jf tb (v * 64) j) 8))) H := hP
              have hD : va_D A (mw cI cZ h r mk hg ed kn nb (va_up tb2 ((v * 64) + j) (jm (jf tb (v * 64) j) 8))) := hD
              refine xr_iinc (lv' := [(2, .int (nI (j + 1))), (0, .ref h), (1, .int (nI v))]) (k := 2) hx hb dX1_join_141 hl rfl (by decide) rfl (fun ls hl => ?_)
              refine lv_goto (tgt := 109) hx hb dX1_join_144 (by decide) ?_
              exact ih3 (j + 1) (va_up tb2 (v * 64 + j) (jm (jf tb (v * 64) j) 8)) _ _ _ (by omega) (by omega) (fun z hz => by rw [up_n (by omega)]; exact hm1 z hz) (fun z hz => by rw [up_n (by omega)]; exact hm2 z hz) (fun z hz => by by_cases e : z = j; (· rw [e, up_s]); (· rw [up_n (by omega)]; exact hm3 z (by omega))) hP hD hS (lv_sub hl [1, 2, 0] rfl)
        exact loop3 65 0 tb1 _ _ _ (by omega) (by omega) (fun z hz => hk1 z (by omega)) (fun z hz => hk2 z (by omega)) (fun z hz => absurd hz (Nat.not_lt_zero z)) hP hD hS (lv_sub hl [1, 2, 0] rfl)
      · refine lv_ldc (v := nI 100000) hx hb hown (hts _ q268) dX1_join_8 ?_
        refine lv_istore_n (lv' := [(3, .int (nI 100000)), (0, .ref h), (1, .int (nI v)), (2, .int (nI q))]) hx hb dX1_join_10 rfl hl (by decide) rfl (fun ls hl => ?_)
        refine lv_iconst (v := nI 0) hx hb dX1_join_11 (by decide) ?_
        refine lv_istore (lv' := [(4, .int (nI 0)), (3, .int (nI 100000)), (0, .ref h), (1, .int (nI v)), (2, .int (nI q))]) hx hb dX1_join_12 hl (by decide) rfl (fun ls hl => ?_)
        have hq : q < 64 := c5
        have loop2 : ∀ (n2 : Nat) (k : Nat) (H : Heap) (locs : List Loc) (ls : Array Slot), (k ≤ 8) → (9 ≤ k + n2) → va_P D vwCl (mw cI cZ h r mk hg ed kn nb tb1) H → va_D A (mw cI cZ h r mk hg ed kn nb tb1) → va_S A s.heap H locs → lv_has ls 7 [(0, .ref h), (1, .int (nI v)), (2, .int (nI q)), (3, .int (nI (jm (jf tb (v * 64) q) k))), (4, .int (nI k))] → W p l e (rmL 1 22) s m args below meth c H locs 0 0 Q (F0 m 14 ls []) := by
          intro n2
          induction n2 with
          | zero =>
            intro k H locs ls hk hn2 hP hD hS hl
            omega
          | succ n2 ih2 =>
            intro k H locs ls hk hn2 hP hD hS hl
            refine lv_iload hx hb dX1_join_14 (lv_at hl 4 rfl) ?_
            refine lv_bipush (v := nI 8) hx hb dX1_join_16 (by decide) ?_
            refine xr_icmp_ge (tgt := 85) hx hb dX1_join_18 (by decide) (by omega) (by omega) (fun c18 => ?_) (fun c18 => ?_)
            · refine lv_aload_n hx hb dX1_join_85 rfl (lv_at hl 0 rfl) ?_
              refine va_get (D := D) (ci := 1) (v := .ref (r 3)) (C := RX1) (T := TX1) (N := 6) hx hb hts in_X1 hown hK hP 0 rfl rfl 5 (by decide) (hts _ q201) (fun _ h9 => h9) rfl dX1_join_86 ?_
              refine lv_iload_n hx hb dX1_join_89 rfl (lv_at hl 1 rfl) ?_
              refine lv_bipush (v := nI 64) hx hb dX1_join_90 (by decide) ?_
              refine xr_imul hx hb dX1_join_92 ?_
              refine lv_sipush (v := nI 128) hx hb dX1_join_93 (by decide) ?_
              refine xr_iadd hx hb dX1_join_96 ?_
              refine lv_iload_n hx hb dX1_join_97 rfl (lv_at hl 2 rfl) ?_
              refine xr_iadd hx hb dX1_join_98 ?_
              refine lv_iload_n hx hb dX1_join_99 rfl (lv_at hl 3 rfl) ?_
              refine xr_iast (f := tb1) hx hb hK hP hD hS 4 0 rfl rfl (by omega) (by decide) dX1_join_100 (fun H locs hP hD hS => ?_)
              have hP : va_P D vwCl (mw cI cZ h r mk hg ed kn nb (va_up tb1 (((v * 64) + 128) + q) (jm (jf tb (v * 64) q) k))) H := hP
              have hD : va_D A (mw cI cZ h r mk hg ed kn nb (va_up tb1 (((v * 64) + 128) + q) (jm (jf tb (v * 64) q) k))) := hD
              refine xr_iinc (lv' := [(2, .int (nI (q + 1))), (0, .ref h), (1, .int (nI v)), (3, .int (nI (jm (jf tb (v * 64) q) k))), (4, .int (nI k))]) (k := 2) hx hb dX1_join_101 hl rfl (by decide) rfl (fun ls hl => ?_)
              refine lv_goto (tgt := 2) hx hb dX1_join_104 (by decide) ?_
              have ek : k = 8 := by omega
              rw [ek] at hP hD
              exact ih (q + 1) (va_up tb1 (v * 64 + 128 + q) (jm (jf tb (v * 64) q) 8)) _ _ _ (by omega) (by omega) (fun z hz => by rw [up_n (by omega)]; exact hk1 z hz) (fun z hz => by by_cases e : z = q; (· rw [e, up_s]); (· rw [up_n (by omega)]; exact hk2 z (by omega))) hP hD hS (lv_sub hl [1, 2, 0] rfl)
            · refine lv_aload_n hx hb dX1_join_21 rfl (lv_at hl 0 rfl) ?_
              refine va_get (D := D) (ci := 1) (v := .ref (r 3)) (C := RX1) (T := TX1) (N := 6) hx hb hts in_X1 hown hK hP 0 rfl rfl 5 (by decide) (hts _ q201) (fun _ h9 => h9) rfl dX1_join_22 ?_
              refine lv_iload_n hx hb dX1_join_25 rfl (lv_at hl 1 rfl) ?_
              refine lv_bipush (v := nI 64) hx hb dX1_join_26 (by decide) ?_
              refine xr_imul hx hb dX1_join_28 ?_
              refine lv_iload_n hx hb dX1_join_29 rfl (lv_at hl 2 rfl) ?_
              refine lv_bipush (v := nI 8) hx hb dX1_join_30 (by decide) ?_
              refine xr_idiv hx hb dX1_join_32 (by omega) (by decide) (by decide) ?_
              refine lv_bipush (v := nI 8) hx hb dX1_join_33 (by decide) ?_
              refine xr_imul hx hb dX1_join_35 ?_
              refine xr_iadd hx hb dX1_join_36 ?_
              refine lv_iload hx hb dX1_join_37 (lv_at hl 4 rfl) ?_
              refine xr_iadd hx hb dX1_join_39 ?_
              refine xr_iald (f := tb1) hx hb hK hP 4 0 rfl rfl (by omega) (by decide) dX1_join_40 ?_
              rw [hk1 _ (by omega)]
              have hxx := h1 (q / 8 * 8 + k) (by omega)
              rw [← Nat.add_assoc] at hxx
              refine lv_istore (lv' := [(5, .int (nI (tb ((v * 64) + ((q / 8) * 8) + k)))), (0, .ref h), (1, .int (nI v)), (2, .int (nI q)), (3, .int (nI (jm (jf tb (v * 64) q) k))), (4, .int (nI k))]) hx hb dX1_join_41 hl (by decide) rfl (fun ls hl => ?_)
              refine lv_aload_n hx hb dX1_join_43 rfl (lv_at hl 1 rfl) ?_
              refine va_get (D := D) (ci := 1) (v := .ref (r 3)) (C := RX1) (T := TX1) (N := 6) hx hb hts in_X1 hown hK hP 0 rfl rfl 5 (by decide) (hts _ q201) (fun _ h9 => h9) rfl dX1_join_44 ?_
              refine lv_iload_n hx hb dX1_join_47 rfl (lv_at hl 2 rfl) ?_
              refine lv_bipush (v := nI 64) hx hb dX1_join_48 (by decide) ?_
              refine xr_imul hx hb dX1_join_50 ?_
              refine lv_bipush (v := nI 64) hx hb dX1_join_51 (by decide) ?_
              refine xr_iadd hx hb dX1_join_53 ?_
              refine lv_iload hx hb dX1_join_54 (lv_at hl 5 rfl) ?_
              refine lv_bipush (v := nI 8) hx hb dX1_join_56 (by decide) ?_
              refine xr_imul hx hb dX1_join_58 ?_
              refine xr_iadd hx hb dX1_join_59 ?_
              refine lv_iload_n hx hb dX1_join_60 rfl (lv_at hl 3 rfl) ?_
              refine lv_bipush (v := nI 8) hx hb dX1_join_61 (by decide) ?_
              refine xr_irem hx hb dX1_join_63 (by omega) (by decide) (by decide) ?_
              refine xr_iadd hx hb dX1_join_64 ?_
              refine xr_iald (f := tb1) hx hb hK hP 4 0 rfl rfl (by omega) (by decide) dX1_join_65 ?_
              rw [hk1 _ (by omega)]
              have hyy := h1 (64 + k * 8 + q % 8) (by omega)
              rw [← Nat.add_assoc, ← Nat.add_assoc] at hyy
              refine lv_istore (lv' := [(6, .int (nI (tb ((v * 64) + 64 + (k * 8) + (q % 8))))), (5, .int (nI (tb ((v * 64) + ((q / 8) * 8) + k)))), (0, .ref h), (1, .int (nI v)), (2, .int (nI q)), (3, .int (nI (jm (jf tb (v * 64) q) k))), (4, .int (nI k))]) hx hb dX1_join_66 hl (by decide) rfl (fun ls hl => ?_)
              refine lv_aload_n hx hb dX1_join_68 rfl (lv_at hl 2 rfl) ?_
              refine lv_iload_n hx hb dX1_join_69 rfl (lv_at hl 5 rfl) ?_
              refine lv_iload hx hb dX1_join_70 (lv_at hl 1 rfl) ?_
              refine lv_iload hx hb dX1_join_72 (lv_at hl 0 rfl) ?_
              refine xr_iadd hx hb dX1_join_74 ?_
              have hjl := jm_le (jf tb (v * 64) q) k
              refine cl_i0 (As := [.int (nI (jm (jf tb (v * 64) q) k)), .int (nI ((tb ((v * 64) + ((q / 8) * 8) + k)) + (tb ((v * 64) + 64 + (k * 8) + (q % 8)))))]) (rest := []) (C := RX1) F (M_least l D cI cZ (mw cI cZ h r mk hg ed kn nb tb1) h (jm (jf tb (v * 64) q) k) ((tb ((v * 64) + ((q / 8) * 8) + k)) + (tb ((v * 64) + 64 + (k * 8) + (q % 8)))) (by omega) (by omega)) (lw_V q273 q275 qs16 q21 q276) 2 rfl (by decide +kernel) ⟨Nat.le_of_ble_eq_true rfl, Nat.le_of_ble_eq_true rfl⟩ ⟨rfl, rfl⟩ ⟨Nat.zero_le _, Nat.zero_le _⟩ hK hP hD hS hA 0 1 rfl rfl hl.1 rfl (Nat.le_of_ble_eq_true rfl) dX1_join_75 (fun r1 u H locs hw hP hD hS => ?_)
              have hP : va_P D vwCl (mw cI cZ h r mk hg ed kn nb tb1) H := hP
              have hD : va_D A (mw cI cZ h r mk hg ed kn nb tb1) := hD
              have hw : r1 = nI (jm (jf tb (v * 64) q) (k + 1)) := hw
              subst hw
              refine lv_istore_n (lv' := [(3, .int (nI (jm (jf tb (v * 64) q) (k + 1)))), (6, .int (nI (tb ((v * 64) + 64 + (k * 8) + (q % 8))))), (5, .int (nI (tb ((v * 64) + ((q / 8) * 8) + k)))), (0, .ref h), (1, .int (nI v)), (2, .int (nI q)), (4, .int (nI k))]) hx hb dX1_join_78 rfl hl (by decide) rfl (fun ls hl => ?_)
              refine xr_iinc (lv' := [(4, .int (nI (k + 1))), (3, .int (nI (jm (jf tb (v * 64) q) (k + 1)))), (6, .int (nI (tb ((v * 64) + 64 + (k * 8) + (q % 8))))), (5, .int (nI (tb ((v * 64) + ((q / 8) * 8) + k)))), (0, .ref h), (1, .int (nI v)), (2, .int (nI q))]) (k := 6) hx hb dX1_join_79 hl rfl (by decide) rfl (fun ls hl => ?_)
              refine lv_goto (tgt := 14) hx hb dX1_join_82 (by decide) ?_
              exact ih2 (k + 1) _ _ _ (by omega) (by omega) hP hD hS (lv_sub hl [4, 5, 6, 1, 0] rfl)
        exact loop2 9 0 _ _ _ (by omega) (by omega) hP hD hS (lv_sub hl [2, 3, 4, 1, 0] rfl)
  exact loop 65 0 tb _ _ _ (by omega) (by omega) (fun _ _ => rfl) (fun z hz => absurd hz (Nat.not_lt_zero z)) hP hD hS (lv_sub hl [1, 2, 0] rfl)
theorem fw_col {tb tb2 : Nat → Nat} {o m p : Nat} {R : Nat → Nat → Nat → Prop} (h : FW tb o m R) (hm : m < 8) (e : ∀ z, z < 64 → tb2 (o + z) = if z < p then min (tb (o + z)) (tb (o + z / 8 * 8 + m) + tb (o + m * 8 + z % 8)) else tb (o + z)) {a : Nat} (ha : a < 8) : tb2 (o + a * 8 + m) = tb (o + a * 8 + m) ∧ tb2 (o + m * 8 + a) = tb (o + m * 8 + a) := by
  have h4 := (h m m hm hm).2.2.1
  have e1 := e (a * 8 + m) (by omega)
  have e2 := e (m * 8 + a) (by omega)
  rw [← Nat.add_assoc, show (a * 8 + m) / 8 = a by omega, show (a * 8 + m) % 8 = m by omega] at e1
  rw [← Nat.add_assoc, show (m * 8 + a) / 8 = m by omega, show (m * 8 + a) % 8 = a by omega] at e2
  constructor
  · rw [e1]
    split
    · omega
    · rfl
  · rw [e2]
    split
    · omega
    · rfl
set_option maxHeartbeats 4000000 in
set_option maxRecDepth 100000 in
theorem M_close (l : Launch) (D : va_G) (cI cZ : ClassId) (h : Nat) (r : Nat → Nat) (mk hg : Nat) (ed kn nb tb : Nat → Nat) (R : Nat → Nat → Nat → Prop) (v : Nat) (hv : v ≤ 6) (hI : IM tb (v * 64) R) (h8 : ∀ a d b, a < 8 → R a d b → b < 8) :
    ct_v l yX1_close cX1_close 6 (rmL 1 22) D (tyL cI cZ) [.ref h, .int (nI v)] (mw cI cZ h r mk hg ed kn nb tb) (Nat → Nat) (fun u => (∀ j, j < v * 64 → u j = tb j) ∧ IM u (v * 64) (stR R)) (fun u => mw cI cZ h r mk hg ed kn nb u) := by
  refine ct_v_of (by decide) (Nat.le_of_ble_eq_true rfl) ?_
  intro p e s m args below meth c A Q ls F hK hP hD hS hA hend hl
  have F : CallFix p m c cX1_close 6 s args lw_all RX1 := F
  obtain ⟨hx, hb, hml, hown, hts⟩ := id F
  have hl : lv_has ls 6 [(0, .ref h), (1, .int (nI v))] := hl
  refine lv_iconst (v := nI 0) hx hb dX1_close_0 (by decide) ?_
  refine lv_istore_n (lv' := [(2, .int (nI 0)), (0, .ref h), (1, .int (nI v))]) hx hb dX1_close_1 rfl hl (by decide) rfl (fun ls hl => ?_)
  have loop : ∀ (n : Nat) (i : Nat) (tb1 : Nat → Nat) (H : Heap) (locs : List Loc) (ls : Array Slot), (i ≤ 8) → (9 ≤ i + n) → (∀ z, z < v * 64 → tb1 z = tb z) → (∀ a b, a < 8 → b < 8 → tb1 (v * 64 + a * 8 + b) = if a = b ∧ a < i then 0 else tb (v * 64 + a * 8 + b)) → va_P D vwCl (mw cI cZ h r mk hg ed kn nb tb1) H → va_D A (mw cI cZ h r mk hg ed kn nb tb1) → va_S A s.heap H locs → lv_has ls 6 [(0, .ref h), (1, .int (nI v)), (2, .int (nI i))] → W p l e (rmL 1 22) s m args below meth c H locs 0 0 Q (F0 m 2 ls []) := by
    intro n
    induction n with
    | zero =>
      intro i tb1 H locs ls hi hn hd1 hd2 hP hD hS hl
      omega
    | succ n ih =>
      intro i tb1 H locs ls hi hn hd1 hd2 hP hD hS hl
      refine lv_iload_n hx hb dX1_close_2 rfl (lv_at hl 2 rfl) ?_
      refine lv_bipush (v := nI 8) hx hb dX1_close_3 (by decide) ?_
      refine xr_icmp_ge (tgt := 29) hx hb dX1_close_5 (by decide) (by omega) (by omega) (fun c5 => ?_) (fun c5 => ?_)
      · refine lv_iconst (v := nI 0) hx hb dX1_close_29 (by decide) ?_
        refine lv_istore_n (lv' := [(2, .int (nI 0)), (0, .ref h), (1, .int (nI v))]) hx hb dX1_close_30 rfl hl (by decide) rfl (fun ls hl => ?_)
        have hF0 : FW tb1 (v * 64) 0 R := FW_0 hI (fun a b ha hb => by
          have e1 := hd2 a b ha hb
          rw [e1]
          by_cases q : a = b
          · rw [if_pos ⟨q, by omega⟩, if_pos q]
          · rw [if_neg (fun z => q z.1), if_neg q])
        have loop2 : ∀ (n2 : Nat) (k : Nat) (tb2 : Nat → Nat) (H : Heap) (locs : List Loc) (ls : Array Slot), (k ≤ 8) → (9 ≤ k + n2) → (∀ z, z < v * 64 → tb2 z = tb z) → (FW tb2 (v * 64) k R) → va_P D vwCl (mw cI cZ h r mk hg ed kn nb tb2) H → va_D A (mw cI cZ h r mk hg ed kn nb tb2) → va_S A s.heap H locs → lv_has ls 6 [(0, .ref h), (1, .int (nI v)), (2, .int (nI k))] → W p l e (rmL 1 22) s m args below meth c H locs 0 0 Q (F0 m 31 ls []) := by
          intro n2
          induction n2 with
          | zero =>
            intro k tb2 H locs ls hk hn2 hb1 hF hP hD hS hl
            omega
          | succ n2 ih2 =>
            intro k tb2 H locs ls hk hn2 hb1 hF hP hD hS hl
            refine lv_iload_n hx hb dX1_close_31 rfl (lv_at hl 2 rfl) ?_
            refine lv_bipush (v := nI 8) hx hb dX1_close_32 (by decide) ?_
            refine xr_icmp_ge (tgt := 130) hx hb dX1_close_34 (by decide) (by omega) (by omega) (fun c34 => ?_) (fun c34 => ?_)
            · exact hend tb2 _ _ _ _ dX1_close_130 ⟨hb1, FW_8 (by rw [show k = 8 by omega] at hF; exact hF) h8⟩ hP hD hS
            · refine lv_iconst (v := nI 0) hx hb dX1_close_37 (by decide) ?_
              refine lv_istore_n (lv' := [(3, .int (nI 0)), (0, .ref h), (1, .int (nI v)), (2, .int (nI k))]) hx hb dX1_close_38 rfl hl (by decide) rfl (fun ls hl => ?_)
              have loop3 : ∀ (n3 : Nat) (j : Nat) (tb3 : Nat → Nat) (H : Heap) (locs : List Loc) (ls : Array Slot), (j ≤ 64) → (65 ≤ j + n3) → (∀ z, z < v * 64 → tb3 z = tb z) → (∀ z, z < 64 → tb3 (v * 64 + z) = if z < j then min (tb2 (v * 64 + z)) (tb2 (v * 64 + z / 8 * 8 + k) + tb2 (v * 64 + k * 8 + z % 8)) else tb2 (v * 64 + z)) → va_P D vwCl (mw cI cZ h r mk hg ed kn nb tb3) H → va_D A (mw cI cZ h r mk hg ed kn nb tb3) → va_S A s.heap H locs → lv_has ls 6 [(0, .ref h), (1, .int (nI v)), (2, .int (nI k)), (3, .int (nI j))] → W p l e (rmL 1 22) s m args below meth c H locs 0 0 Q (F0 m 39 ls []) := by
                intro n3
                induction n3 with
                | zero =>
                  intro j tb3 H locs ls hj hn3 hc1 he hP hD hS hl
                  omega
                | succ n3 ih3 =>
                  intro j tb3 H locs ls hj hn3 hc1 he hP hD hS hl
                  refine lv_iload_n hx hb dX1_close_39 rfl (lv_at hl 3 rfl) ?_
                  refine lv_bipush (v := nI 64) hx hb dX1_close_40 (by decide) ?_
                  refine xr_icmp_ge (tgt := 124) hx hb dX1_close_42 (by decide) (by omega) (by omega) (fun c42 => ?_) (fun c42 => ?_)
                  · refine xr_iinc (lv' := [(2, .int (nI (k + 1))), (0, .ref h), (1, .int (nI v)), (3, .int (nI j))]) (k := 2) hx hb dX1_close_124 hl rfl (by decide) rfl (fun ls hl => ?_)
                    refine lv_goto (tgt := 31) hx hb dX1_close_127 (by decide) ?_
                    exact ih2 (k + 1) tb3 _ _ _ (by omega) (by omega) hc1 (FW_next hF c34 (fun z hz => by rw [he z hz, if_pos (by omega)])) hP hD hS (lv_sub hl [1, 2, 0] rfl)
                  · have hcol := fw_col hF c34 he (a := j / 8) (by omega)
                    have hrow := fw_col hF c34 he (a := j % 8) (by omega)
                    have hl1 := (hF (j / 8) k (by omega) c34).1
                    have hl2 := (hF k (j % 8) c34 (by omega)).1
                    have ecur := he j c42
                    rw [if_neg (by omega)] at ecur
                    have hl3 := (hF (j / 8) (j % 8) (by omega) (by omega)).1
                    rw [show v * 64 + j / 8 * 8 + j % 8 = v * 64 + j by omega] at hl3
                    refine lv_aload_n hx hb dX1_close_45 rfl (lv_at hl 0 rfl) ?_
                    refine va_get (D := D) (ci := 1) (v := .ref (r 3)) (C := RX1) (T := TX1) (N := 6) hx hb hts in_X1 hown hK hP 0 rfl rfl 5 (by decide) (hts _ q201) (fun _ h9 => h9) rfl dX1_close_46 ?_
                    refine lv_iload_n hx hb dX1_close_49 rfl (lv_at hl 1 rfl) ?_
                    refine lv_bipush (v := nI 64) hx hb dX1_close_50 (by decide) ?_
                    refine xr_imul hx hb dX1_close_52 ?_
                    refine lv_iload_n hx hb dX1_close_53 rfl (lv_at hl 3 rfl) ?_
                    refine lv_bipush (v := nI 8) hx hb dX1_close_54 (by decide) ?_
                    refine xr_idiv hx hb dX1_close_56 (by omega) (by decide) (by decide) ?_
                    refine lv_bipush (v := nI 8) hx hb dX1_close_57 (by decide) ?_
                    refine xr_imul hx hb dX1_close_59 ?_
                    refine xr_iadd hx hb dX1_close_60 ?_
                    refine lv_iload_n hx hb dX1_close_61 rfl (lv_at hl 2 rfl) ?_
                    refine xr_iadd hx hb dX1_close_62 ?_
                    refine xr_iald (f := tb3) hx hb hK hP 4 0 rfl rfl (by omega) (by decide) dX1_close_63 ?_
                    rw [hcol.1]
                    refine lv_istore (lv' := [(4, .int (nI (tb2 ((v * 64) + ((j / 8) * 8) + k)))), (0, .ref h), (1, .int (nI v)), (2, .int (nI k)), (3, .int (nI j))]) hx hb dX1_close_64 hl (by decide) rfl (fun ls hl => ?_)
                    refine lv_aload_n hx hb dX1_close_66 rfl (lv_at hl 1 rfl) ?_
                    refine va_get (D := D) (ci := 1) (v := .ref (r 3)) (C := RX1) (T := TX1) (N := 6) hx hb hts in_X1 hown hK hP 0 rfl rfl 5 (by decide) (hts _ q201) (fun _ h9 => h9) rfl dX1_close_67 ?_
                    refine lv_iload_n hx hb dX1_close_70 rfl (lv_at hl 2 rfl) ?_
                    refine lv_bipush (v := nI 64) hx hb dX1_close_71 (by decide) ?_
                    refine xr_imul hx hb dX1_close_73 ?_
                    refine lv_iload_n hx hb dX1_close_74 rfl (lv_at hl 3 rfl) ?_
                    refine lv_bipush (v := nI 8) hx hb dX1_close_75 (by decide) ?_
                    refine xr_imul hx hb dX1_close_77 ?_
                    refine xr_iadd hx hb dX1_close_78 ?_
                    refine lv_iload_n hx hb dX1_close_79 rfl (lv_at hl 4 rfl) ?_
                    refine lv_bipush (v := nI 8) hx hb dX1_close_80 (by decide) ?_
                    refine xr_irem hx hb dX1_close_82 (by omega) (by decide) (by decide) ?_
                    refine xr_iadd hx hb dX1_close_83 ?_
                    refine xr_iald (f := tb3) hx hb hK hP 4 0 rfl rfl (by omega) (by decide) dX1_close_84 ?_
                    rw [hrow.2]
                    refine lv_istore (lv' := [(5, .int (nI (tb2 ((v * 64) + (k * 8) + (j % 8))))), (4, .int (nI (tb2 ((v * 64) + ((j / 8) * 8) + k)))), (0, .ref h), (1, .int (nI v)), (2, .int (nI k)), (3, .int (nI j))]) hx hb dX1_close_85 hl (by decide) rfl (fun ls hl => ?_)
                    refine lv_aload_n hx hb dX1_close_87 rfl (lv_at hl 2 rfl) ?_
                    refine va_get (D := D) (ci := 1) (v := .ref (r 3)) (C := RX1) (T := TX1) (N := 6) hx hb hts in_X1 hown hK hP 0 rfl rfl 5 (by decide) (hts _ q201) (fun _ h9 => h9) rfl dX1_close_88 ?_
                    refine lv_iload_n hx hb dX1_close_91 rfl (lv_at hl 3 rfl) ?_
                    refine lv_bipush (v := nI 64) hx hb dX1_close_92 (by decide) ?_
                    refine xr_imul hx hb dX1_close_94 ?_
                    refine lv_iload_n hx hb dX1_close_95 rfl (lv_at hl 5 rfl) ?_
                    refine xr_iadd hx hb dX1_close_96 ?_
                    refine lv_aload_n hx hb dX1_close_97 rfl (lv_at hl 2 rfl) ?_
                    refine lv_aload_n hx hb dX1_close_98 rfl (lv_at hl 2 rfl) ?_
                    refine va_get (D := D) (ci := 1) (v := .ref (r 3)) (C := RX1) (T := TX1) (N := 6) hx hb hts in_X1 hown hK hP 0 rfl rfl 5 (by decide) (hts _ q201) (fun _ h9 => h9) rfl dX1_close_99 ?_
                    refine lv_iload_n hx hb dX1_close_102 rfl (lv_at hl 3 rfl) ?_
                    refine lv_bipush (v := nI 64) hx hb dX1_close_103 (by decide) ?_
                    refine xr_imul hx hb dX1_close_105 ?_
                    refine lv_iload_n hx hb dX1_close_106 rfl (lv_at hl 5 rfl) ?_
                    refine xr_iadd hx hb dX1_close_107 ?_
                    refine xr_iald (f := tb3) hx hb hK hP 4 0 rfl rfl (by omega) (by decide) dX1_close_108 ?_
                    rw [ecur]
                    refine lv_iload hx hb dX1_close_109 (lv_at hl 1 rfl) ?_
                    refine lv_iload hx hb dX1_close_111 (lv_at hl 0 rfl) ?_
                    refine xr_iadd hx hb dX1_close_113 ?_
                    refine cl_i0 (As := [.int (nI (tb2 ((v * 64) + j))), .int (nI ((tb2 ((v * 64) + ((j / 8) * 8) + k)) + (tb2 ((v * 64) + (k * 8) + (j % 8)))))]) (rest := [.int (nI ((v * 64) + j)), .ref (r 3)]) (C := RX1) F (M_least l D cI cZ (mw cI cZ h r mk hg ed kn nb tb3) h (tb2 ((v * 64) + j)) ((tb2 ((v * 64) + ((j / 8) * 8) + k)) + (tb2 ((v * 64) + (k * 8) + (j % 8)))) (by omega) (by omega)) (lw_V q273 q275 qs16 q21 q276) 2 rfl (by decide +kernel) ⟨Nat.le_of_ble_eq_true rfl, Nat.le_of_ble_eq_true rfl⟩ ⟨rfl, rfl⟩ ⟨Nat.zero_le _, Nat.zero_le _⟩ hK hP hD hS hA 0 1 rfl rfl hl.1 rfl (Nat.le_of_ble_eq_true rfl) dX1_close_114 (fun r1 u H locs hw hP hD hS => ?_)
                    have hP : va_P D vwCl (mw cI cZ h r mk hg ed kn nb tb3) H := hP
                    have hD : va_D A (mw cI cZ h r mk hg ed kn nb tb3) := hD
                    subst hw
                    refine xr_iast (f := tb3) hx hb hK hP hD hS 4 0 rfl rfl (by omega) (by decide) dX1_close_117 (fun H locs hP hD hS => ?_)
                    have hP : va_P D vwCl (mw cI cZ h r mk hg ed kn nb (va_up tb3 ((v * 64) + j) (min (tb2 ((v * 64) + j)) ((tb2 ((v * 64) + ((j / 8) * 8) + k)) + (tb2 ((v * 64) + (k * 8) + (j % 8))))))) H := hP
                    have hD : va_D A (mw cI cZ h r mk hg ed kn nb (va_up tb3 ((v * 64) + j) (min (tb2 ((v * 64) + j)) ((tb2 ((v * 64) + ((j / 8) * 8) + k)) + (tb2 ((v * 64) + (k * 8) + (j % 8))))))) := hD
                    refine xr_iinc (lv' := [(3, .int (nI (j + 1))), (5, .int (nI (tb2 ((v * 64) + (k * 8) + (j % 8))))), (4, .int (nI (tb2 ((v * 64) + ((j / 8) * 8) + k)))), (0, .ref h), (1, .int (nI v)), (2, .int (nI k))]) (k := 5) hx hb dX1_close_118 hl rfl (by decide) rfl (fun ls hl => ?_)
                    refine lv_goto (tgt := 39) hx hb dX1_close_121 (by decide) ?_
                    exact ih3 (j + 1) (va_up tb3 ((v * 64) + j) (min (tb2 ((v * 64) + j)) ((tb2 ((v * 64) + ((j / 8) * 8) + k)) + (tb2 ((v * 64) + (k * 8) + (j % 8)))))) _ _ _ (by omega) (by omega) (fun z hz => by rw [up_n (by omega)]; exact hc1 z hz) (fun z hz => by by_cases e : z = j; (· rw [e, up_s, if_pos (by omega)]); (· rw [up_n (by omega), he z hz]; by_cases q : z < j; (· rw [if_pos q, if_pos (by omega)]); (· rw [if_neg q, if_neg (by omega)]))) hP hD hS (lv_sub hl [3, 4, 5, 0] rfl)
              exact loop3 65 0 tb2 _ _ _ (by omega) (by omega) hb1 (fun z hz => by rw [if_neg (by omega)]) hP hD hS (lv_sub hl [1, 2, 3, 0] rfl)
        exact loop2 9 0 tb1 _ _ _ (by omega) (by omega) hd1 hF0 hP hD hS (lv_sub hl [1, 2, 0] rfl)
      · refine lv_aload_n hx hb dX1_close_8 rfl (lv_at hl 0 rfl) ?_
        refine va_get (D := D) (ci := 1) (v := .ref (r 3)) (C := RX1) (T := TX1) (N := 6) hx hb hts in_X1 hown hK hP 0 rfl rfl 5 (by decide) (hts _ q201) (fun _ h9 => h9) rfl dX1_close_9 ?_
        refine lv_iload_n hx hb dX1_close_12 rfl (lv_at hl 1 rfl) ?_
        refine lv_bipush (v := nI 64) hx hb dX1_close_13 (by decide) ?_
        refine xr_imul hx hb dX1_close_15 ?_
        refine lv_iload_n hx hb dX1_close_16 rfl (lv_at hl 2 rfl) ?_
        refine lv_bipush (v := nI 9) hx hb dX1_close_17 (by decide) ?_
        refine xr_imul hx hb dX1_close_19 ?_
        refine xr_iadd hx hb dX1_close_20 ?_
        refine lv_iconst (v := nI 0) hx hb dX1_close_21 (by decide) ?_
        refine xr_iast (f := tb1) hx hb hK hP hD hS 4 0 rfl rfl (by omega) (by decide) dX1_close_22 (fun H locs hP hD hS => ?_)
        have hP : va_P D vwCl (mw cI cZ h r mk hg ed kn nb (va_up tb1 ((v * 64) + (i * 9)) 0)) H := hP
        have hD : va_D A (mw cI cZ h r mk hg ed kn nb (va_up tb1 ((v * 64) + (i * 9)) 0)) := hD
        refine xr_iinc (lv' := [(2, .int (nI (i + 1))), (0, .ref h), (1, .int (nI v))]) (k := 2) hx hb dX1_close_23 hl rfl (by decide) rfl (fun ls hl => ?_)
        refine lv_goto (tgt := 2) hx hb dX1_close_26 (by decide) ?_
        exact ih (i + 1) (va_up tb1 (v * 64 + i * 9) 0) _ _ _ (by omega) (by omega) (fun z hz => by rw [up_n (by omega)]; exact hd1 z hz) (fun a b ha hb => by by_cases q : a = i ∧ b = i; (· obtain ⟨rfl, rfl⟩ := q; rw [show v * 64 + b * 8 + b = v * 64 + b * 9 by omega, up_s, if_pos ⟨rfl, by omega⟩]); (· rw [up_n (by omega), hd2 a b ha hb]; by_cases z : a = b ∧ a < i; (· rw [if_pos z, if_pos (by omega)]); (· rw [if_neg z, if_neg (by omega)]))) hP hD hS (lv_sub hl [1, 2, 0] rfl)
  exact loop 9 0 tb _ _ _ (by omega) (by omega) (fun _ _ => rfl) (fun a b ha hb => by rw [if_neg (by omega)]) hP hD hS (lv_sub hl [1, 2, 0] rfl)
end
section
/-! the steps worked off -/
def mHI (G : GR) (kn nb tb : Nat → Nat) (i : Nat) : Prop := ∀ h, h < stN kn i → IM tb (h * 64) (stE kn nb i h G)
theorem stN_p {kn : Nat → Nat} {i : Nat} (h : kn i < 3) : stN kn (i + 1) = stN kn i + 1 := by
  rw [stN, if_pos h]
theorem stN_j {kn : Nat → Nat} {i : Nat} (h : kn i = 3 ∨ kn i = 4) : stN kn (i + 1) = stN kn i - 1 := by
  rw [stN, if_neg (by omega), if_pos (by omega)]
theorem stN_s {kn : Nat → Nat} {i : Nat} (h : kn i = 5) : stN kn (i + 1) = stN kn i := by
  rw [stN, if_neg (by omega), if_neg (by omega)]
theorem stE_p {kn nb : Nat → Nat} {i : Nat} (h : kn i < 3) : stE kn nb (i + 1) = va_up (stE kn nb i) (stN kn i) (ex1 (knd (kn i) (nb i))) := by
  rw [stE, if_pos h]
theorem stE_3 {kn nb : Nat → Nat} {i : Nat} (h : kn i = 3) : stE kn nb (i + 1) = va_up (stE kn nb i) (stN kn i - 2) (exS (stE kn nb i (stN kn i - 2)) (stE kn nb i (stN kn i - 1))) := by
  rw [stE, if_neg (by omega), if_pos h]
theorem stE_4 {kn nb : Nat → Nat} {i : Nat} (h : kn i = 4) : stE kn nb (i + 1) = va_up (stE kn nb i) (stN kn i - 2) (exA (stE kn nb i (stN kn i - 2)) (stE kn nb i (stN kn i - 1))) := by
  rw [stE, if_neg (by omega), if_neg (by omega), if_pos h]
theorem stE_5 {kn nb : Nat → Nat} {i : Nat} (h : kn i = 5) : stE kn nb (i + 1) = va_up (stE kn nb i) (stN kn i - 1) (exK (stE kn nb i (stN kn i - 1))) := by
  rw [stE, if_neg (by omega), if_neg (by omega), if_neg (by omega)]
theorem mHI_low {G : GR} {kn nb tb tb' : Nat → Nat} {i x : Nat} {E : Ex} (h : mHI G kn nb tb i) (hx : x ≤ stN kn i) (e : ∀ z, z < x * 64 → tb' z = tb z) (hn : stN kn (i + 1) = x + 1) (hE : stE kn nb (i + 1) = va_up (stE kn nb i) x E) (hI : IM tb' (x * 64) (E G)) : mHI G kn nb tb' (i + 1) := by
  intro y hy
  rw [hE]
  by_cases q : y = x
  · rw [q, up_s]
    exact hI
  · rw [up_n q]
    exact (h y (by omega)).to (fun p hp => e _ (by omega))
theorem mHI_push {G : GR} {kn nb tb tb' : Nat → Nat} {i : Nat} (h : mHI G kn nb tb i) (hk : kn i < 3) (e : ∀ z, z < stN kn i * 64 → tb' z = tb z) (hs : ∀ p, p < 64 → mSg G (kn i) (nb i) (p / 8) (p % 8) (tb' (stN kn i * 64 + p))) : mHI G kn nb tb' (i + 1) :=
  mHI_low h (Nat.le_refl _) e (stN_p hk) (stE_p hk) (IM_1 hs)
theorem mHI_join {G : GR} {kn nb tb tb' : Nat → Nat} {i : Nat} (hG : GB G) (h : mHI G kn nb tb i) (hk : kn i = 3) (h2 : 2 ≤ stN kn i) (e : ∀ z, z < (stN kn i - 2) * 64 → tb' z = tb z) (hs : ∀ p, p < 64 → tb' ((stN kn i - 2) * 64 + p) = jm (jf tb ((stN kn i - 2) * 64) p) 8) : mHI G kn nb tb' (i + 1) := by
  refine mHI_low h (by omega) e (by rw [stN_j (Or.inl hk)]; omega) (stE_3 hk) ?_
  have h1 := h (stN kn i - 2) (by omega)
  have h3 := h (stN kn i - 1) (by omega)
  rw [show (stN kn i - 1) * 64 = (stN kn i - 2) * 64 + 64 by omega] at h3
  exact IM_join h1 h3 (fun a d b ha hr => E8_st hG kn nb i _ a d b ha hr) hs
theorem mHI_alt {G : GR} {kn nb tb tb' : Nat → Nat} {i : Nat} (h : mHI G kn nb tb i) (hk : kn i = 4) (h2 : 2 ≤ stN kn i) (e : ∀ z, z < (stN kn i - 2) * 64 → tb' z = tb z) (hs : ∀ p, p < 64 → tb' ((stN kn i - 2) * 64 + p) = min (tb ((stN kn i - 2) * 64 + p)) (tb ((stN kn i - 2) * 64 + 64 + p))) : mHI G kn nb tb' (i + 1) := by
  refine mHI_low h (by omega) e (by rw [stN_j (Or.inr hk)]; omega) (stE_4 hk) ?_
  have h1 := h (stN kn i - 2) (by omega)
  have h3 := h (stN kn i - 1) (by omega)
  rw [show (stN kn i - 1) * 64 = (stN kn i - 2) * 64 + 64 by omega] at h3
  exact IM_alt h1 h3 hs
theorem mHI_star {G : GR} {kn nb tb tb' : Nat → Nat} {i : Nat} (h : mHI G kn nb tb i) (hk : kn i = 5) (h2 : 1 ≤ stN kn i) (e : ∀ z, z < (stN kn i - 1) * 64 → tb' z = tb z) (hs : IM tb' ((stN kn i - 1) * 64) (stR (stE kn nb i (stN kn i - 1) G))) : mHI G kn nb tb' (i + 1) :=
  mHI_low h (by omega) e (by rw [stN_s hk]; omega) (stE_5 hk) hs
theorem mHI_le {G : GR} {kn nb tb : Nat → Nat} {i : Nat} (h : mHI G kn nb tb i) {z : Nat} (hz : z < stN kn i * 64) : tb z ≤ 100000 := by
  have := (h (z / 64) (by omega)).le (p := z % 64) (by omega)
  rw [show z / 64 * 64 + z % 64 = z by omega] at this
  exact this
def mDV (G : GR) (mk : Nat) (kn nb : Nat → Nat) (dv : Nat → Nat → Nat) : Prop :=
  ∀ a b, a < 8 → b < 8 → dv a b ≤ 224 ∧ dv a b = if stN kn mk = 0 then 0 else mn (fun d => stE kn nb mk (stN kn mk - 1) G a d b)
def mL (dv : Nat → Nat → Nat) (a b : Nat) : Nat := if dv a b = 0 then 100000 else dv a b - 1
theorem mL_of {G : GR} {mk : Nat} {kn nb tb : Nat → Nat} {dv : Nat → Nat → Nat} (h : mHI G kn nb tb mk) (hd : mDV G mk kn nb dv) {a b : Nat} (ha : a < 8) (hb : b < 8) : (if stN kn mk = 0 then 100000 else min 100000 (tb ((stN kn mk - 1) * 64 + a * 8 + b))) = mL dv a b := by
  obtain ⟨h1, h2⟩ := hd a b ha hb
  unfold mL
  by_cases q : stN kn mk = 0
  · rw [if_pos q] at h2 ⊢
    rw [h2, if_pos rfl]
  · rw [if_neg q] at h2 ⊢
    rw [h2]
    exact IM_mn (h (stN kn mk - 1) (by omega)) ha hb (by rw [← h2]; exact h1)
theorem mL_le {dv : Nat → Nat → Nat} {a b : Nat} (h : dv a b ≤ 224) : mL dv a b ≤ 100000 ∧ (mL dv a b < 100000 ↔ dv a b ≠ 0) := by
  unfold mL
  split
  · omega
  · omega
end
section
/-! PathAlgebraModel: workOut, length -/
set_option maxHeartbeats 4000000 in
set_option maxRecDepth 100000 in
theorem M_workOut (l : Launch) (D : va_G) (cI cZ : ClassId) (h : Nat) (r : Nat → Nat) (mk hg : Nat) (ed kn nb tb : Nat → Nat) (G : GR) (hM : MOK G mk hg ed kn nb) :
    ct_i l yX1_workOut cX1_workOut 4 .int (rmL 2 48) D (tyL cI cZ) [.ref h] (mw cI cZ h r mk hg ed kn nb tb) (Nat → Nat) (fun x u => x = nI (stN kn mk) - 1 ∧ mHI G kn nb u mk) (fun u => mw cI cZ h r mk hg ed kn nb u) := by
  refine ct_i_of (by decide) (Nat.le_of_ble_eq_true rfl) ?_
  intro p e s m args below meth c A Q ls F hK hP hD hS hA hend hl
  have F : CallFix p m c cX1_workOut 4 s args lw_all RX1 := F
  obtain ⟨hx, hb, hml, hown, hts⟩ := id F
  have hl : lv_has ls 4 [(0, .ref h)] := hl
  obtain ⟨hG, hmk, hhg, hLG⟩ := hM
  have hG0 := hG.1
  refine lv_iconst (v := nI (stN kn 0) - 1) hx hb dX1_workOut_0 rfl ?_
  refine lv_istore_n (lv' := [(1, .int (nI (stN kn 0) - 1)), (0, .ref h)]) hx hb dX1_workOut_1 rfl hl (by decide) rfl (fun ls hl => ?_)
  refine lv_iconst (v := nI 0) hx hb dX1_workOut_2 (by decide) ?_
  refine lv_istore_n (lv' := [(2, .int (nI 0)), (1, .int (nI (stN kn 0) - 1)), (0, .ref h)]) hx hb dX1_workOut_3 rfl hl (by decide) rfl (fun ls hl => ?_)
  have loop : ∀ (n : Nat) (i : Nat) (tb1 : Nat → Nat) (H : Heap) (locs : List Loc) (ls : Array Slot), (i ≤ mk) → (mk + 1 ≤ i + n) → (mHI G kn nb tb1 i) → va_P D vwCl (mw cI cZ h r mk hg ed kn nb tb1) H → va_D A (mw cI cZ h r mk hg ed kn nb tb1) → va_S A s.heap H locs → lv_has ls 4 [(0, .ref h), (1, .int (nI (stN kn i) - 1)), (2, .int (nI i))] → W p l e (rmL 2 48) s m args below meth c H locs 0 0 Q (F0 m 4 ls []) := by
    intro n
    induction n with
    | zero =>
      intro i tb1 H locs ls hi hn hH hP hD hS hl
      omega
    | succ n ih =>
      intro i tb1 H locs ls hi hn hH hP hD hS hl
      refine lv_iload_n hx hb dX1_workOut_4 rfl (lv_at hl 2 rfl) ?_
      refine lv_aload_n hx hb dX1_workOut_5 rfl (lv_at hl 0 rfl) ?_
      refine va_get (D := D) (ci := 1) (v := .int (nI mk)) (C := RX1) (T := TX1) (N := 6) hx hb hts in_X1 hown hK hP 0 rfl rfl 1 (by decide) (hts _ q197) (fun _ h9 => h9) rfl dX1_workOut_6 ?_
      refine xr_icmp_ge (tgt := 179) hx hb dX1_workOut_9 (by decide) (by omega) (by omega) (fun c9 => ?_) (fun c9 => ?_)
      · refine lv_iload_n hx hb dX1_workOut_179 rfl (lv_at hl 1 rfl) ?_
        have ei : i = mk := by omega
        subst ei
        exact hend (nI (stN kn i) - 1) tb1 _ _ _ _ dX1_workOut_180 rfl ⟨rfl, hH⟩ hP hD hS
      · have hLi := hLG i c9
        have hNi := hLG.le i (by omega)
        have hk5 : kn i ≤ 5 := by omega
        refine lv_aload_n hx hb dX1_workOut_12 rfl (lv_at hl 0 rfl) ?_
        refine va_get (D := D) (ci := 1) (v := .ref (r 1)) (C := RX1) (T := TX1) (N := 6) hx hb hts in_X1 hown hK hP 0 rfl rfl 2 (by decide) (hts _ q198) (fun _ h9 => h9) rfl dX1_workOut_13 ?_
        refine lv_iload_n hx hb dX1_workOut_16 rfl (lv_at hl 2 rfl) ?_
        refine xr_iald (f := kn) hx hb hK hP 2 0 rfl rfl (by omega) (by decide) dX1_workOut_17 ?_
        refine lv_iconst (v := nI 3) hx hb dX1_workOut_18 (by decide) ?_
        refine xr_icmp_ge (tgt := 77) hx hb dX1_workOut_19 (by decide) (by omega) (by omega) (fun c19 => ?_) (fun c19 => ?_)
        · refine lv_aload_n hx hb dX1_workOut_77 rfl (lv_at hl 0 rfl) ?_
          refine va_get (D := D) (ci := 1) (v := .ref (r 1)) (C := RX1) (T := TX1) (N := 6) hx hb hts in_X1 hown hK hP 0 rfl rfl 2 (by decide) (hts _ q198) (fun _ h9 => h9) rfl dX1_workOut_78 ?_
          refine lv_iload_n hx hb dX1_workOut_81 rfl (lv_at hl 2 rfl) ?_
          refine xr_iald (f := kn) hx hb hK hP 2 0 rfl rfl (by omega) (by decide) dX1_workOut_82 ?_
          refine lv_iconst (v := nI 3) hx hb dX1_workOut_83 (by decide) ?_
          refine xr_icmp_ne (tgt := 98) hx hb dX1_workOut_84 (by decide) (by omega) (by omega) (fun c84 => ?_) (fun c84 => ?_)
          · refine lv_aload_n hx hb dX1_workOut_98 rfl (lv_at hl 0 rfl) ?_
            refine va_get (D := D) (ci := 1) (v := .ref (r 1)) (C := RX1) (T := TX1) (N := 6) hx hb hts in_X1 hown hK hP 0 rfl rfl 2 (by decide) (hts _ q198) (fun _ h9 => h9) rfl dX1_workOut_99 ?_
            refine lv_iload_n hx hb dX1_workOut_102 rfl (lv_at hl 2 rfl) ?_
            refine xr_iald (f := kn) hx hb hK hP 2 0 rfl rfl (by omega) (by decide) dX1_workOut_103 ?_
            refine lv_iconst (v := nI 4) hx hb dX1_workOut_104 (by decide) ?_
            refine xr_icmp_ne (tgt := 168) hx hb dX1_workOut_105 (by decide) (by omega) (by omega) (fun c105 => ?_) (fun c105 => ?_)
            · rw [zz_1p (n := stN kn i) (by omega)] at hl
              refine lv_aload_n hx hb dX1_workOut_168 rfl (lv_at hl 0 rfl) ?_
              refine lv_iload_n hx hb dX1_workOut_169 rfl (lv_at hl 1 rfl) ?_
              refine cl_v0 (As := [.int (nI (stN kn i - 1))]) (rest := []) (C := RX1) F (M_close l D cI cZ h r mk hg ed kn nb tb1 (stE kn nb i (stN kn i - 1) G) (stN kn i - 1) (by omega) (hH _ (by omega)) (fun a d b ha hr => E8_st hG0 kn nb i _ a d b ha hr)) (lw_V q277 q279 qs17 q21 q280) 1 rfl (by decide +kernel) ⟨Nat.le_of_ble_eq_true rfl, Nat.le_of_ble_eq_true rfl⟩ ⟨rfl, rfl⟩ ⟨Nat.zero_le _, Nat.zero_le _⟩ hK hP hD hS hA 0 1 rfl rfl hl.1 rfl (Nat.le_of_ble_eq_true rfl) dX1_workOut_170 (fun u H locs hw hP hD hS => ?_)
              have hP : va_P D vwCl (mw cI cZ h r mk hg ed kn nb u) H := hP
              have hD : va_D A (mw cI cZ h r mk hg ed kn nb u) := hD
              refine xr_iinc (lv' := [(2, .int (nI (i + 1))), (0, .ref h), (1, .int (nI (stN kn i - 1)))]) (k := 2) hx hb dX1_workOut_173 hl rfl (by decide) rfl (fun ls hl => ?_)
              refine lv_goto (tgt := 4) hx hb dX1_workOut_176 (by decide) ?_
              have e0 := stN_s (kn := kn) (i := i) (by omega)
              have e1 : nI (stN kn i - 1) = nI (stN kn (i + 1)) - 1 := by rw [e0, zz_1p (by omega)]
              rw [e1] at hl
              exact ih (i + 1) u _ _ _ (by omega) (by omega) (mHI_star hH (by omega) (by omega) hw.1 hw.2) hP hD hS (lv_sub hl [1, 2, 0] rfl)
            · refine lv_iinc (v := nI (stN kn i - 2)) (lv' := [(1, .int (nI (stN kn i - 2))), (0, .ref h), (2, .int (nI i))]) (k := 1) hx hb dX1_workOut_108 hl rfl (zz_m2 (by omega)) (by decide) rfl (fun ls hl => ?_)
              refine lv_iconst (v := nI 0) hx hb dX1_workOut_111 (by decide) ?_
              refine lv_istore_n (lv' := [(3, .int (nI 0)), (1, .int (nI (stN kn i - 2))), (0, .ref h), (2, .int (nI i))]) hx hb dX1_workOut_112 rfl hl (by decide) rfl (fun ls hl => ?_)
              have loop2 : ∀ (n2 : Nat) (q : Nat) (tb2 : Nat → Nat) (H : Heap) (locs : List Loc) (ls : Array Slot), (q ≤ 64) → (65 ≤ q + n2) → (∀ z, z < (stN kn i - 2) * 64 → tb2 z = tb1 z) → (∀ z, z < q → tb2 ((stN kn i - 2) * 64 + z) = min (tb1 ((stN kn i - 2) * 64 + z)) (tb1 ((stN kn i - 2) * 64 + 64 + z))) → (∀ z, q ≤ z → z < 64 → tb2 ((stN kn i - 2) * 64 + z) = tb1 ((stN kn i - 2) * 64 + z)) → (∀ z, z < 64 → tb2 ((stN kn i - 2) * 64 + 64 + z) = tb1 ((stN kn i - 2) * 64 + 64 + z)) → va_P D vwCl (mw cI cZ h r mk hg ed kn nb tb2) H → va_D A (mw cI cZ h r mk hg ed kn nb tb2) → va_S A s.heap H locs → lv_has ls 4 [(0, .ref h), (1, .int (nI (stN kn i - 2))), (2, .int (nI i)), (3, .int (nI q))] → W p l e (rmL 2 48) s m args below meth c H locs 0 0 Q (F0 m 113 ls []) := by
                intro n2
                induction n2 with
                | zero =>
                  intro q tb2 H locs ls hq hn2 h21 h22 h23 h24 hP hD hS hl
                  omega
                | succ n2 ih2 =>
                  intro q tb2 H locs ls hq hn2 h21 h22 h23 h24 hP hD hS hl
                  refine lv_iload_n hx hb dX1_workOut_113 rfl (lv_at hl 3 rfl) ?_
                  refine lv_bipush (v := nI 64) hx hb dX1_workOut_114 (by decide) ?_
                  refine xr_icmp_ge (tgt := 165) hx hb dX1_workOut_116 (by decide) (by omega) (by omega) (fun c116 => ?_) (fun c116 => ?_)
                  · refine lv_goto (tgt := 173) hx hb dX1_workOut_165 (by decide) ?_
                    refine xr_iinc (lv' := [(2, .int (nI (i + 1))), (0, .ref h), (1, .int (nI (stN kn i - 2))), (3, .int (nI q))]) (k := 2) hx hb dX1_workOut_173 hl rfl (by decide) rfl (fun ls hl => ?_)
                    refine lv_goto (tgt := 4) hx hb dX1_workOut_176 (by decide) ?_
                    have e0 := stN_j (kn := kn) (i := i) (by omega)
                    have e1 : nI (stN kn i - 2) = nI (stN kn (i + 1)) - 1 := by rw [e0, zz_1p (by omega)]; rfl
                    rw [e1] at hl
                    exact ih (i + 1) tb2 _ _ _ (by omega) (by omega) (mHI_alt hH (by omega) (by omega) h21 (fun z hz => h22 z (by omega))) hP hD hS (lv_sub hl [1, 2, 0] rfl)
                  · refine lv_aload_n hx hb dX1_workOut_119 rfl (lv_at hl 0 rfl) ?_
                    refine va_get (D := D) (ci := 1) (v := .ref (r 3)) (C := RX1) (T := TX1) (N := 6) hx hb hts in_X1 hown hK hP 0 rfl rfl 5 (by decide) (hts _ q201) (fun _ h9 => h9) rfl dX1_workOut_120 ?_
                    refine lv_iload_n hx hb dX1_workOut_123 rfl (lv_at hl 1 rfl) ?_
                    refine lv_bipush (v := nI 64) hx hb dX1_workOut_124 (by decide) ?_
                    refine xr_imul hx hb dX1_workOut_126 ?_
                    refine lv_iload_n hx hb dX1_workOut_127 rfl (lv_at hl 3 rfl) ?_
                    refine xr_iadd hx hb dX1_workOut_128 ?_
                    refine lv_aload_n hx hb dX1_workOut_129 rfl (lv_at hl 0 rfl) ?_
                    refine lv_aload_n hx hb dX1_workOut_130 rfl (lv_at hl 0 rfl) ?_
                    refine va_get (D := D) (ci := 1) (v := .ref (r 3)) (C := RX1) (T := TX1) (N := 6) hx hb hts in_X1 hown hK hP 0 rfl rfl 5 (by decide) (hts _ q201) (fun _ h9 => h9) rfl dX1_workOut_131 ?_
                    refine lv_iload_n hx hb dX1_workOut_134 rfl (lv_at hl 1 rfl) ?_
                    refine lv_bipush (v := nI 64) hx hb dX1_workOut_135 (by decide) ?_
                    refine xr_imul hx hb dX1_workOut_137 ?_
                    refine lv_iload_n hx hb dX1_workOut_138 rfl (lv_at hl 3 rfl) ?_
                    refine xr_iadd hx hb dX1_workOut_139 ?_
                    refine xr_iald (f := tb2) hx hb hK hP 4 0 rfl rfl (by omega) (by decide) dX1_workOut_140 ?_
                    rw [h23 q (Nat.le_refl _) c116]
                    have hx1 := mHI_le hH (z := (stN kn i - 2) * 64 + q) (by omega)
                    refine lv_aload_n hx hb dX1_workOut_141 rfl (lv_at hl 0 rfl) ?_
                    refine va_get (D := D) (ci := 1) (v := .ref (r 3)) (C := RX1) (T := TX1) (N := 6) hx hb hts in_X1 hown hK hP 0 rfl rfl 5 (by decide) (hts _ q201) (fun _ h9 => h9) rfl dX1_workOut_142 ?_
                    refine lv_iload_n hx hb dX1_workOut_145 rfl (lv_at hl 1 rfl) ?_
                    refine lv_bipush (v := nI 64) hx hb dX1_workOut_146 (by decide) ?_
                    refine xr_imul hx hb dX1_workOut_148 ?_
                    refine lv_bipush (v := nI 64) hx hb dX1_workOut_149 (by decide) ?_
                    refine xr_iadd hx hb dX1_workOut_151 ?_
                    refine lv_iload_n hx hb dX1_workOut_152 rfl (lv_at hl 3 rfl) ?_
                    refine xr_iadd hx hb dX1_workOut_153 ?_
                    refine xr_iald (f := tb2) hx hb hK hP 4 0 rfl rfl (by omega) (by decide) dX1_workOut_154 ?_
                    rw [h24 q c116]
                    have hx2 := mHI_le hH (z := (stN kn i - 2) * 64 + 64 + q) (by omega)
                    refine cl_i0 (As := [.int (nI (tb1 ((stN kn i - 2) * 64 + q))), .int (nI (tb1 ((stN kn i - 2) * 64 + 64 + q)))]) (rest := [.int (nI (((stN kn i - 2) * 64) + q)), .ref (r 3)]) (C := RX1) F (M_least l D cI cZ (mw cI cZ h r mk hg ed kn nb tb2) h (tb1 ((stN kn i - 2) * 64 + q)) (tb1 ((stN kn i - 2) * 64 + 64 + q)) (by omega) (by omega)) (lw_V q273 q275 qs16 q21 q276) 2 rfl (by decide +kernel) ⟨Nat.le_of_ble_eq_true rfl, Nat.le_of_ble_eq_true rfl⟩ ⟨rfl, rfl⟩ ⟨Nat.zero_le _, Nat.zero_le _⟩ hK hP hD hS hA 0 1 rfl rfl hl.1 rfl (Nat.le_of_ble_eq_true rfl) dX1_workOut_155 (fun r1 u H locs hw hP hD hS => ?_)
                    have hP : va_P D vwCl (mw cI cZ h r mk hg ed kn nb tb2) H := hP
                    have hD : va_D A (mw cI cZ h r mk hg ed kn nb tb2) := hD
                    subst hw
                    refine xr_iast (f := tb2) hx hb hK hP hD hS 4 0 rfl rfl (by omega) (by decide) dX1_workOut_158 (fun H locs hP hD hS => ?_)
                    have hP : va_P D vwCl (mw cI cZ h r mk hg ed kn nb (va_up tb2 (((stN kn i - 2) * 64) + q) (min (tb1 ((stN kn i - 2) * 64 + q)) (tb1 ((stN kn i - 2) * 64 + 64 + q))))) H := hP
                    have hD : va_D A (mw cI cZ h r mk hg ed kn nb (va_up tb2 (((stN kn i - 2) * 64) + q) (min (tb1 ((stN kn i - 2) * 64 + q)) (tb1 ((stN kn i - 2) * 64 + 64 + q))))) := hD
                    refine xr_iinc (lv' := [(3, .int (nI (q + 1))), (0, .ref h), (1, .int (nI (stN kn i - 2))), (2, .int (nI i))]) (k := 3) hx hb dX1_workOut_159 hl rfl (by decide) rfl (fun ls hl => ?_)
                    refine lv_goto (tgt := 113) hx hb dX1_workOut_162 (by decide) ?_
                    exact ih2 (q + 1) (va_up tb2 (((stN kn i - 2) * 64) + q) (min (tb1 ((stN kn i - 2) * 64 + q)) (tb1 ((stN kn i - 2) * 64 + 64 + q)))) _ _ _ (by omega) (by omega) (fun z hz => by rw [up_n (by omega)]; exact h21 z hz) (fun z hz => by by_cases e : z = q; (· rw [e, up_s]); (· rw [up_n (by omega)]; exact h22 z (by omega))) (fun z hz hz2 => by rw [up_n (by omega)]; exact h23 z (by omega) hz2) (fun z hz => by rw [up_n (by omega)]; exact h24 z hz) hP hD hS (lv_sub hl [1, 2, 3, 0] rfl)
              exact loop2 65 0 tb1 _ _ _ (by omega) (by omega) (fun _ _ => rfl) (fun z hz => absurd hz (Nat.not_lt_zero z)) (fun _ _ _ => rfl) (fun _ _ => rfl) hP hD hS (lv_sub hl [2, 1, 3, 0] rfl)
          · refine lv_iinc (v := nI (stN kn i - 2)) (lv' := [(1, .int (nI (stN kn i - 2))), (0, .ref h), (2, .int (nI i))]) (k := 1) hx hb dX1_workOut_87 hl rfl (zz_m2 (by omega)) (by decide) rfl (fun ls hl => ?_)
            refine lv_aload_n hx hb dX1_workOut_90 rfl (lv_at hl 1 rfl) ?_
            refine lv_iload_n hx hb dX1_workOut_91 rfl (lv_at hl 0 rfl) ?_
            refine cl_v0 (As := [.int (nI (stN kn i - 2))]) (rest := []) (C := RX1) F (M_join l D cI cZ h r mk hg ed kn nb tb1 (stN kn i - 2) (by omega) (fun z hz => mHI_le hH (by omega))) (lw_V q269 q271 qs15 q21 q272) 1 rfl (by decide +kernel) ⟨Nat.le_of_ble_eq_true rfl, Nat.le_of_ble_eq_true rfl⟩ ⟨rfl, rfl⟩ ⟨Nat.zero_le _, Nat.zero_le _⟩ hK hP hD hS hA 0 1 rfl rfl hl.1 rfl (Nat.le_of_ble_eq_true rfl) dX1_workOut_92 (fun u H locs hw hP hD hS => ?_)
            have hP : va_P D vwCl (mw cI cZ h r mk hg ed kn nb u) H := hP
            have hD : va_D A (mw cI cZ h r mk hg ed kn nb u) := hD
            refine lv_goto (tgt := 173) hx hb dX1_workOut_95 (by decide) ?_
            refine xr_iinc (lv' := [(2, .int (nI (i + 1))), (1, .int (nI (stN kn i - 2))), (0, .ref h)]) (k := 2) hx hb dX1_workOut_173 hl rfl (by decide) rfl (fun ls hl => ?_)
            refine lv_goto (tgt := 4) hx hb dX1_workOut_176 (by decide) ?_
            have e0 := stN_j (kn := kn) (i := i) (by omega)
            have e1 : nI (stN kn i - 2) = nI (stN kn (i + 1)) - 1 := by rw [e0, zz_1p (by omega)]; rfl
            rw [e1] at hl
            exact ih (i + 1) u _ _ _ (by omega) (by omega) (mHI_join hG0 hH (by omega) (by omega) hw.1 hw.2) hP hD hS (lv_sub hl [2, 1, 0] rfl)
        · refine lv_iinc (v := nI (stN kn i)) (lv' := [(1, .int (nI (stN kn i))), (0, .ref h), (2, .int (nI i))]) (k := 1) hx hb dX1_workOut_22 hl rfl (zz_mp (stN kn i)) (by decide) rfl (fun ls hl => ?_)
          refine lv_iconst (v := nI 0) hx hb dX1_workOut_25 (by decide) ?_
          refine lv_istore_n (lv' := [(3, .int (nI 0)), (1, .int (nI (stN kn i))), (0, .ref h), (2, .int (nI i))]) hx hb dX1_workOut_26 rfl hl (by decide) rfl (fun ls hl => ?_)
          have loop2 : ∀ (n2 : Nat) (q : Nat) (tb2 : Nat → Nat) (H : Heap) (locs : List Loc) (ls : Array Slot), (q ≤ 64) → (65 ≤ q + n2) → (∀ z, z < stN kn i * 64 → tb2 z = tb1 z) → (∀ z, z < q → mSg G (kn i) (nb i) (z / 8) (z % 8) (tb2 (stN kn i * 64 + z))) → va_P D vwCl (mw cI cZ h r mk hg ed kn nb tb2) H → va_D A (mw cI cZ h r mk hg ed kn nb tb2) → va_S A s.heap H locs → lv_has ls 4 [(0, .ref h), (1, .int (nI (stN kn i))), (2, .int (nI i)), (3, .int (nI q))] → W p l e (rmL 2 48) s m args below meth c H locs 0 0 Q (F0 m 27 ls []) := by
            intro n2
            induction n2 with
            | zero =>
              intro q tb2 H locs ls hq hn2 h21 h22 hP hD hS hl
              omega
            | succ n2 ih2 =>
              intro q tb2 H locs ls hq hn2 h21 h22 hP hD hS hl
              refine lv_iload_n hx hb dX1_workOut_27 rfl (lv_at hl 3 rfl) ?_
              refine lv_bipush (v := nI 64) hx hb dX1_workOut_28 (by decide) ?_
              refine xr_icmp_ge (tgt := 74) hx hb dX1_workOut_30 (by decide) (by omega) (by omega) (fun c30 => ?_) (fun c30 => ?_)
              · refine lv_goto (tgt := 173) hx hb dX1_workOut_74 (by decide) ?_
                refine xr_iinc (lv' := [(2, .int (nI (i + 1))), (0, .ref h), (1, .int (nI (stN kn i))), (3, .int (nI q))]) (k := 2) hx hb dX1_workOut_173 hl rfl (by decide) rfl (fun ls hl => ?_)
                refine lv_goto (tgt := 4) hx hb dX1_workOut_176 (by decide) ?_
                have e0 := stN_p (kn := kn) (i := i) (by omega)
                have e1 : nI (stN kn i) = nI (stN kn (i + 1)) - 1 := by rw [e0, nI_pred]
                rw [e1] at hl
                exact ih (i + 1) tb2 _ _ _ (by omega) (by omega) (mHI_push hH (by omega) h21 (fun z hz => h22 z (by omega))) hP hD hS (lv_sub hl [1, 2, 0] rfl)
              · refine lv_aload_n hx hb dX1_workOut_33 rfl (lv_at hl 0 rfl) ?_
                refine va_get (D := D) (ci := 1) (v := .ref (r 3)) (C := RX1) (T := TX1) (N := 6) hx hb hts in_X1 hown hK hP 0 rfl rfl 5 (by decide) (hts _ q201) (fun _ h9 => h9) rfl dX1_workOut_34 ?_
                refine lv_iload_n hx hb dX1_workOut_37 rfl (lv_at hl 1 rfl) ?_
                refine lv_bipush (v := nI 64) hx hb dX1_workOut_38 (by decide) ?_
                refine xr_imul hx hb dX1_workOut_40 ?_
                refine lv_iload_n hx hb dX1_workOut_41 rfl (lv_at hl 3 rfl) ?_
                refine xr_iadd hx hb dX1_workOut_42 ?_
                refine lv_aload_n hx hb dX1_workOut_43 rfl (lv_at hl 0 rfl) ?_
                refine lv_aload_n hx hb dX1_workOut_44 rfl (lv_at hl 0 rfl) ?_
                refine va_get (D := D) (ci := 1) (v := .ref (r 1)) (C := RX1) (T := TX1) (N := 6) hx hb hts in_X1 hown hK hP 0 rfl rfl 2 (by decide) (hts _ q198) (fun _ h9 => h9) rfl dX1_workOut_45 ?_
                refine lv_iload_n hx hb dX1_workOut_48 rfl (lv_at hl 2 rfl) ?_
                refine xr_iald (f := kn) hx hb hK hP 2 0 rfl rfl (by omega) (by decide) dX1_workOut_49 ?_
                refine lv_aload_n hx hb dX1_workOut_50 rfl (lv_at hl 0 rfl) ?_
                refine va_get (D := D) (ci := 1) (v := .ref (r 2)) (C := RX1) (T := TX1) (N := 6) hx hb hts in_X1 hown hK hP 0 rfl rfl 3 (by decide) (hts _ q199) (fun _ h9 => h9) rfl dX1_workOut_51 ?_
                refine lv_iload_n hx hb dX1_workOut_54 rfl (lv_at hl 2 rfl) ?_
                refine xr_mald (f := nb) hx hb hK hP 3 0 rfl rfl (by omega) (by decide) dX1_workOut_55 ?_
                refine lv_iload_n hx hb dX1_workOut_56 rfl (lv_at hl 3 rfl) ?_
                refine lv_bipush (v := nI 8) hx hb dX1_workOut_57 (by decide) ?_
                refine xr_idiv hx hb dX1_workOut_59 (by omega) (by decide) (by decide) ?_
                refine lv_iload_n hx hb dX1_workOut_60 rfl (lv_at hl 3 rfl) ?_
                refine lv_bipush (v := nI 8) hx hb dX1_workOut_61 (by decide) ?_
                refine xr_irem hx hb dX1_workOut_63 (by omega) (by decide) (by decide) ?_
                refine cl_i0 (As := [.int (nI (kn i)), .int (nI (nb i) - 1), .int (nI (q / 8)), .int (nI (q % 8))]) (rest := [.int (nI (((stN kn i) * 64) + q)), .ref (r 3)]) (C := RX1) F (M_single l D cI cZ h r mk hg ed kn nb tb2 G (kn i) (nb i) (q / 8) (q % 8) hG (by omega) (by omega) (by omega) (by omega) (by omega)) (lw_V q264 q266 qs14 q21 q267) 4 rfl (by decide +kernel) ⟨Nat.le_of_ble_eq_true rfl, Nat.le_of_ble_eq_true rfl⟩ ⟨rfl, rfl⟩ ⟨Nat.zero_le _, Nat.zero_le _⟩ hK hP hD hS hA 0 1 rfl rfl hl.1 rfl (Nat.le_of_ble_eq_true rfl) dX1_workOut_64 (fun r1 u H locs hw hP hD hS => ?_)
                have hP : va_P D vwCl (mw cI cZ h r mk hg ed kn nb tb2) H := hP
                have hD : va_D A (mw cI cZ h r mk hg ed kn nb tb2) := hD
                obtain ⟨v, rfl, hsg⟩ := hw
                refine xr_iast (f := tb2) hx hb hK hP hD hS 4 0 rfl rfl (by omega) (by decide) dX1_workOut_67 (fun H locs hP hD hS => ?_)
                have hP : va_P D vwCl (mw cI cZ h r mk hg ed kn nb (va_up tb2 (((stN kn i) * 64) + q) v)) H := hP
                have hD : va_D A (mw cI cZ h r mk hg ed kn nb (va_up tb2 (((stN kn i) * 64) + q) v)) := hD
                refine xr_iinc (lv' := [(3, .int (nI (q + 1))), (0, .ref h), (1, .int (nI (stN kn i))), (2, .int (nI i))]) (k := 3) hx hb dX1_workOut_68 hl rfl (by decide) rfl (fun ls hl => ?_)
                refine lv_goto (tgt := 27) hx hb dX1_workOut_71 (by decide) ?_
                exact ih2 (q + 1) (va_up tb2 (stN kn i * 64 + q) v) _ _ _ (by omega) (by omega) (fun z hz => by rw [up_n (by omega)]; exact h21 z hz) (fun z hz => by by_cases e : z = q; (· rw [e, up_s]; exact hsg); (· rw [up_n (by omega)]; exact h22 z (by omega))) hP hD hS (lv_sub hl [1, 2, 3, 0] rfl)
          exact loop2 65 0 tb1 _ _ _ (by omega) (by omega) (fun _ _ => rfl) (fun z hz => absurd hz (Nat.not_lt_zero z)) hP hD hS (lv_sub hl [2, 1, 3, 0] rfl)
  exact loop (mk + 1) 0 tb _ _ _ (by omega) (by omega) (fun y hy => absurd hy (Nat.not_lt_zero y)) hP hD hS (lv_sub hl [2, 1, 0] rfl)
set_option maxHeartbeats 4000000 in
set_option maxRecDepth 100000 in
theorem M_length (l : Launch) (D : va_G) (cI cZ : ClassId) (h : Nat) (r : Nat → Nat) (mk hg : Nat) (ed kn nb tb : Nat → Nat) (n a b : Nat) (hn : n ≤ 6) (ha : a < 8) (hbb : b < 8) (htb : 0 < n → tb ((n - 1) * 64 + a * 8 + b) ≤ 100000) :
    ct_i l yX1_length cX1_length 4 .int (rmL 1 22) D (tyL cI cZ) [.ref h, .int (nI n - 1), .int (nI a), .int (nI b)] (mw cI cZ h r mk hg ed kn nb tb) (Unit) (fun x _ => x = nI (if n = 0 then 100000 else min 100000 (tb ((n - 1) * 64 + a * 8 + b)))) (fun _ => mw cI cZ h r mk hg ed kn nb tb) := by
  refine ct_i_of (by decide) (Nat.le_of_ble_eq_true rfl) ?_
  intro p e s m args below meth c A Q ls F hK hP hD hS hA hend hl
  have F : CallFix p m c cX1_length 4 s args lw_all RX1 := F
  obtain ⟨hx, hb, hml, hown, hts⟩ := id F
  have hl : lv_has ls 4 [(0, .ref h), (1, .int (nI n - 1)), (2, .int (nI a)), (3, .int (nI b))] := hl
  refine lv_iload_n hx hb dX1_length_0 rfl (lv_at hl 1 rfl) ?_
  refine xr_mge (tgt := 9) hx hb dX1_length_1 (by decide) (by omega) (fun c1 => ?_) (fun c1 => ?_)
  · have htb := htb c1
    rw [zz_1p (n := n) (by omega)] at hl
    refine lv_aload_n hx hb dX1_length_9 rfl (lv_at hl 0 rfl) ?_
    refine lv_ldc (v := nI 100000) hx hb hown (hts _ q268) dX1_length_10 ?_
    refine lv_aload_n hx hb dX1_length_12 rfl (lv_at hl 0 rfl) ?_
    refine va_get (D := D) (ci := 1) (v := .ref (r 3)) (C := RX1) (T := TX1) (N := 6) hx hb hts in_X1 hown hK hP 0 rfl rfl 5 (by decide) (hts _ q201) (fun _ h9 => h9) rfl dX1_length_13 ?_
    refine lv_iload_n hx hb dX1_length_16 rfl (lv_at hl 1 rfl) ?_
    refine lv_bipush (v := nI 64) hx hb dX1_length_17 (by decide) ?_
    refine xr_imul hx hb dX1_length_19 ?_
    refine lv_iload_n hx hb dX1_length_20 rfl (lv_at hl 2 rfl) ?_
    refine lv_bipush (v := nI 8) hx hb dX1_length_21 (by decide) ?_
    refine xr_imul hx hb dX1_length_23 ?_
    refine xr_iadd hx hb dX1_length_24 ?_
    refine lv_iload_n hx hb dX1_length_25 rfl (lv_at hl 3 rfl) ?_
    refine xr_iadd hx hb dX1_length_26 ?_
    refine xr_iald (f := tb) hx hb hK hP 4 0 rfl rfl (by omega) (by decide) dX1_length_27 ?_
    refine cl_i0 (As := [.int (nI 100000), .int (nI (tb ((((n - 1) * 64) + (a * 8)) + b)))]) (rest := []) (C := RX1) F (M_least l D cI cZ (mw cI cZ h r mk hg ed kn nb tb) h (100000) (tb ((((n - 1) * 64) + (a * 8)) + b)) (by omega) (by omega)) (lw_V q273 q275 qs16 q21 q276) 2 rfl (by decide +kernel) ⟨Nat.le_of_ble_eq_true rfl, Nat.le_of_ble_eq_true rfl⟩ ⟨rfl, rfl⟩ ⟨Nat.zero_le _, Nat.zero_le _⟩ hK hP hD hS hA 0 1 rfl rfl hl.1 rfl (Nat.le_of_ble_eq_true rfl) dX1_length_28 (fun r1 u H locs hw hP hD hS => ?_)
    have hP : va_P D vwCl (mw cI cZ h r mk hg ed kn nb tb) H := hP
    have hD : va_D A (mw cI cZ h r mk hg ed kn nb tb) := hD
    subst hw
    exact hend (nI (min (100000) (tb ((((n - 1) * 64) + (a * 8)) + b)))) () _ _ _ _ dX1_length_31 rfl (by rw [if_neg (by omega)]) hP hD hS
  · refine lv_ldc (v := nI 100000) hx hb hown (hts _ q268) dX1_length_4 ?_
    refine lv_goto (tgt := 31) hx hb dX1_length_6 (by decide) ?_
    exact hend (nI 100000) () _ _ _ _ dX1_length_31 rfl (by rw [if_pos c1]) hP hD hS
end
section
/-! PathAlgebraModel: the questions -/
def wm (dv : Nat → Nat → Nat) (k : Nat) : Int32 := if wd dv k = 0 then -5 else nI (wd dv k - 1)
theorem wm_step (dv : Nat → Nat → Nat) (h : ∀ a b, a < 8 → b < 8 → dv a b ≤ 224) {k : Nat} (hk : k < 64) : (100000 ≤ mL dv (k / 8) (k % 8) → wm dv (k + 1) = wm dv k) ∧ (mL dv (k / 8) (k % 8) < 100000 → nI (mL dv (k / 8) (k % 8)) ≤ wm dv k → wm dv (k + 1) = wm dv k) ∧ (mL dv (k / 8) (k % 8) < 100000 → ¬ nI (mL dv (k / 8) (k % 8)) ≤ wm dv k → wm dv (k + 1) = nI (mL dv (k / 8) (k % 8))) := by
  have h1 := wd_le dv h k (by omega)
  have h2 := h (k / 8) (k % 8) (by omega) (by omega)
  have h3 := mL_le h2
  have e3 : wd dv (k + 1) = max (wd dv k) (dv (k / 8) (k % 8)) := rfl
  unfold wm
  rw [e3]
  refine ⟨fun c => ?_, fun c c2 => ?_, fun c c2 => ?_⟩
  · rw [Nat.max_eq_left (by omega)]
  · have e4 : mL dv (k / 8) (k % 8) = dv (k / 8) (k % 8) - 1 := by
      unfold mL
      rw [if_neg (by omega)]
    by_cases q : wd dv k = 0
    · rw [if_pos q, fa_le, nI_toInt (by omega), show (-5 : Int32).toInt = -5 from rfl] at c2
      omega
    · rw [if_neg q, nI_leI (by omega) (by omega)] at c2
      rw [Nat.max_eq_left (by omega)]
  · have e4 : mL dv (k / 8) (k % 8) = dv (k / 8) (k % 8) - 1 := by
      unfold mL
      rw [if_neg (by omega)]
    by_cases q : wd dv k = 0
    · rw [q, Nat.max_eq_right (by omega), if_neg (by omega), e4]
    · rw [if_neg q, nI_leI (by omega) (by omega)] at c2
      rw [Nat.max_eq_right (by omega), if_neg (by omega), e4]
set_option maxHeartbeats 4000000 in
set_option maxRecDepth 100000 in
theorem M_leads (l : Launch) (D : va_G) (cI cZ : ClassId) (h : Nat) (r : Nat → Nat) (mk hg : Nat) (ed kn nb tb : Nat → Nat) (G : GR) (dv : Nat → Nat → Nat) (hM : MOK G mk hg ed kn nb) (hdv : mDV G mk kn nb dv) (a b : Int32) :
    ct_i l yX1_leads cX1_leads 4 .boolean (rmL 3 71) D (tyL cI cZ) [.ref h, .int a, .int b] (mw cI cZ h r mk hg ed kn nb tb) (Nat → Nat) (fun x _ => x = anLeads dv a b) (fun u => mw cI cZ h r mk hg ed kn nb u) := by
  refine ct_i_of (by decide) (Nat.le_of_ble_eq_true rfl) ?_
  intro p e s m args below meth c A Q ls F hK hP hD hS hA hend hl
  have F : CallFix p m c cX1_leads 4 s args lw_all RX1 := F
  obtain ⟨hx, hb, hml, hown, hts⟩ := id F
  have hl : lv_has ls 4 [(0, .ref h), (1, .int a), (2, .int b)] := hl
  have hdl : ∀ a b, a < 8 → b < 8 → dv a b ≤ 224 := fun a b ha hb => (hdv a b ha hb).1
  have hN6 : stN kn mk ≤ 6 := hM.2.2.2.le mk (Nat.le_refl _)
  refine lv_aload_n hx hb dX1_leads_0 rfl (lv_at hl 0 rfl) ?_
  refine lv_iload_n hx hb dX1_leads_1 rfl (lv_at hl 1 rfl) ?_
  refine cl_i0 (As := [.int a]) (rest := []) (C := RX1) F (M_bad l D cI cZ (mw cI cZ h r mk hg ed kn nb tb) h a) (lw_V q256 q258 qs12 q21 q259) 1 rfl (by decide +kernel) ⟨Nat.le_of_ble_eq_true rfl, Nat.le_of_ble_eq_true rfl⟩ ⟨rfl, rfl⟩ ⟨Nat.zero_le _, Nat.zero_le _⟩ hK hP hD hS hA 0 1 rfl rfl hl.1 rfl (Nat.le_of_ble_eq_true rfl) dX1_leads_2 (fun r1 u H locs hw hP hD hS => ?_)
  have hP : va_P D vwCl (mw cI cZ h r mk hg ed kn nb tb) H := hP
  have hD : va_D A (mw cI cZ h r mk hg ed kn nb tb) := hD
  rcases hw with ⟨rfl, hw⟩ | ⟨rfl, hw⟩
  · obtain ⟨i, hi, rfl⟩ := hw
    refine xr_if_ne (tgt := 16) hx hb dX1_leads_5 (by decide) (by omega) (fun c5 => ?_) (fun c5 => ?_)
    · omega
    · refine lv_aload_n hx hb dX1_leads_8 rfl (lv_at hl 0 rfl) ?_
      refine lv_iload_n hx hb dX1_leads_9 rfl (lv_at hl 2 rfl) ?_
      refine cl_i0 (As := [.int b]) (rest := []) (C := RX1) F (M_bad l D cI cZ (mw cI cZ h r mk hg ed kn nb tb) h b) (lw_V q256 q258 qs12 q21 q259) 1 rfl (by decide +kernel) ⟨Nat.le_of_ble_eq_true rfl, Nat.le_of_ble_eq_true rfl⟩ ⟨rfl, rfl⟩ ⟨Nat.zero_le _, Nat.zero_le _⟩ hK hP hD hS hA 0 1 rfl rfl hl.1 rfl (Nat.le_of_ble_eq_true rfl) dX1_leads_10 (fun r1 u H locs hw hP hD hS => ?_)
      have hP : va_P D vwCl (mw cI cZ h r mk hg ed kn nb tb) H := hP
      have hD : va_D A (mw cI cZ h r mk hg ed kn nb tb) := hD
      rcases hw with ⟨rfl, hw⟩ | ⟨rfl, hw⟩
      · obtain ⟨j, hj, rfl⟩ := hw
        refine xr_if_eq (tgt := 18) hx hb dX1_leads_13 (by decide) (by omega) (fun c13 => ?_) (fun c13 => ?_)
        · refine lv_aload_n hx hb dX1_leads_18 rfl (lv_at hl 0 rfl) ?_
          refine cl_i0 (As := []) (rest := []) (C := RX1) F (M_workOut l D cI cZ h r mk hg ed kn nb tb G hM) (lw_V q260 q262 qs13 q21 q263) 0 rfl (by decide +kernel) ⟨Nat.le_of_ble_eq_true rfl, Nat.le_of_ble_eq_true rfl⟩ ⟨rfl, rfl⟩ ⟨Nat.zero_le _, Nat.zero_le _⟩ hK hP hD hS hA 0 1 rfl rfl hl.1 rfl (Nat.le_of_ble_eq_true rfl) dX1_leads_19 (fun r1 u H locs hw hP hD hS => ?_)
          have hP : va_P D vwCl (mw cI cZ h r mk hg ed kn nb u) H := hP
          have hD : va_D A (mw cI cZ h r mk hg ed kn nb u) := hD
          generalize u = tb1 at hP hD hw
          obtain ⟨rfl, hH⟩ := hw
          refine lv_istore_n (lv' := [(3, .int (nI (stN kn mk) - 1)), (0, .ref h), (1, .int (nI i)), (2, .int (nI j))]) hx hb dX1_leads_22 rfl hl (by decide) rfl (fun ls hl => ?_)
          refine lv_aload_n hx hb dX1_leads_23 rfl (lv_at hl 1 rfl) ?_
          refine lv_iload_n hx hb dX1_leads_24 rfl (lv_at hl 0 rfl) ?_
          refine lv_iload_n hx hb dX1_leads_25 rfl (lv_at hl 2 rfl) ?_
          refine lv_iload_n hx hb dX1_leads_26 rfl (lv_at hl 3 rfl) ?_
          refine cl_i0 (As := [.int (nI (stN kn mk) - 1), .int (nI i), .int (nI j)]) (rest := []) (C := RX1) F (M_length l D cI cZ h r mk hg ed kn nb tb1 (stN kn mk) (i) (j) hN6 hi hj (fun h0 => mHI_le hH (by omega))) (lw_V q281 q283 qs18 q21 q284) 3 rfl (by decide +kernel) ⟨Nat.le_of_ble_eq_true rfl, Nat.le_of_ble_eq_true rfl⟩ ⟨rfl, rfl⟩ ⟨Nat.zero_le _, Nat.zero_le _⟩ hK hP hD hS hA 0 1 rfl rfl hl.1 rfl (Nat.le_of_ble_eq_true rfl) dX1_leads_27 (fun r2 u H locs hw2 hP hD hS => ?_)
          have hP : va_P D vwCl (mw cI cZ h r mk hg ed kn nb tb1) H := hP
          have hD : va_D A (mw cI cZ h r mk hg ed kn nb tb1) := hD
          rw [mL_of hH hdv hi hj] at hw2
          subst hw2
          have hml := mL_le (hdl (i) (j) hi hj)
          refine lv_ldc (v := nI 100000) hx hb hown (hts _ q268) dX1_leads_30 ?_
          refine xr_icmp_ge (tgt := 39) hx hb dX1_leads_32 (by decide) (by omega) (by omega) (fun c32 => ?_) (fun c32 => ?_)
          · refine lv_iconst (v := nI 0) hx hb dX1_leads_39 (by decide) ?_
            exact hend (nI 0) tb1 _ _ _ _ dX1_leads_40 rfl (by rw [anLeads_in dv hi hj, if_pos (by omega)]) hP hD hS
          · refine lv_iconst (v := nI 1) hx hb dX1_leads_35 (by decide) ?_
            refine lv_goto (tgt := 40) hx hb dX1_leads_36 (by decide) ?_
            exact hend (nI 1) tb1 _ _ _ _ dX1_leads_40 rfl (by rw [anLeads_in dv hi hj, if_neg (by omega)]) hP hD hS
        · omega
      · refine xr_if_eq (tgt := 18) hx hb dX1_leads_13 (by decide) (by omega) (fun c13 => ?_) (fun c13 => ?_)
        · omega
        · refine lv_iconst (v := nI 0) hx hb dX1_leads_16 (by decide) ?_
          exact hend (nI 0) tb _ _ _ _ dX1_leads_17 rfl (anLeads_out dv (by rintro ⟨q1, q2⟩; first | exact hw q1 | exact hw q2)).symm hP hD hS
  · refine xr_if_ne (tgt := 16) hx hb dX1_leads_5 (by decide) (by omega) (fun c5 => ?_) (fun c5 => ?_)
    · refine lv_iconst (v := nI 0) hx hb dX1_leads_16 (by decide) ?_
      exact hend (nI 0) tb _ _ _ _ dX1_leads_17 rfl (anLeads_out dv (by rintro ⟨q1, q2⟩; first | exact hw q1 | exact hw q2)).symm hP hD hS
    · omega
set_option maxHeartbeats 4000000 in
set_option maxRecDepth 100000 in
theorem M_shortest (l : Launch) (D : va_G) (cI cZ : ClassId) (h : Nat) (r : Nat → Nat) (mk hg : Nat) (ed kn nb tb : Nat → Nat) (G : GR) (dv : Nat → Nat → Nat) (hM : MOK G mk hg ed kn nb) (hdv : mDV G mk kn nb dv) (a b : Int32) :
    ct_i l yX1_shortest cX1_shortest 5 .int (rmL 3 71) D (tyL cI cZ) [.ref h, .int a, .int b] (mw cI cZ h r mk hg ed kn nb tb) (Nat → Nat) (fun x _ => x = anShort dv a b) (fun u => mw cI cZ h r mk hg ed kn nb u) := by
  refine ct_i_of (by decide) (Nat.le_of_ble_eq_true rfl) ?_
  intro p e s m args below meth c A Q ls F hK hP hD hS hA hend hl
  have F : CallFix p m c cX1_shortest 5 s args lw_all RX1 := F
  obtain ⟨hx, hb, hml, hown, hts⟩ := id F
  have hl : lv_has ls 5 [(0, .ref h), (1, .int a), (2, .int b)] := hl
  have hdl : ∀ a b, a < 8 → b < 8 → dv a b ≤ 224 := fun a b ha hb => (hdv a b ha hb).1
  have hN6 : stN kn mk ≤ 6 := hM.2.2.2.le mk (Nat.le_refl _)
  refine lv_aload_n hx hb dX1_shortest_0 rfl (lv_at hl 0 rfl) ?_
  refine lv_iload_n hx hb dX1_shortest_1 rfl (lv_at hl 1 rfl) ?_
  refine cl_i0 (As := [.int a]) (rest := []) (C := RX1) F (M_bad l D cI cZ (mw cI cZ h r mk hg ed kn nb tb) h a) (lw_V q256 q258 qs12 q21 q259) 1 rfl (by decide +kernel) ⟨Nat.le_of_ble_eq_true rfl, Nat.le_of_ble_eq_true rfl⟩ ⟨rfl, rfl⟩ ⟨Nat.zero_le _, Nat.zero_le _⟩ hK hP hD hS hA 0 1 rfl rfl hl.1 rfl (Nat.le_of_ble_eq_true rfl) dX1_shortest_2 (fun r1 u H locs hw hP hD hS => ?_)
  have hP : va_P D vwCl (mw cI cZ h r mk hg ed kn nb tb) H := hP
  have hD : va_D A (mw cI cZ h r mk hg ed kn nb tb) := hD
  rcases hw with ⟨rfl, hw⟩ | ⟨rfl, hw⟩
  · obtain ⟨i, hi, rfl⟩ := hw
    refine xr_if_ne (tgt := 16) hx hb dX1_shortest_5 (by decide) (by omega) (fun c5 => ?_) (fun c5 => ?_)
    · omega
    · refine lv_aload_n hx hb dX1_shortest_8 rfl (lv_at hl 0 rfl) ?_
      refine lv_iload_n hx hb dX1_shortest_9 rfl (lv_at hl 2 rfl) ?_
      refine cl_i0 (As := [.int b]) (rest := []) (C := RX1) F (M_bad l D cI cZ (mw cI cZ h r mk hg ed kn nb tb) h b) (lw_V q256 q258 qs12 q21 q259) 1 rfl (by decide +kernel) ⟨Nat.le_of_ble_eq_true rfl, Nat.le_of_ble_eq_true rfl⟩ ⟨rfl, rfl⟩ ⟨Nat.zero_le _, Nat.zero_le _⟩ hK hP hD hS hA 0 1 rfl rfl hl.1 rfl (Nat.le_of_ble_eq_true rfl) dX1_shortest_10 (fun r1 u H locs hw hP hD hS => ?_)
      have hP : va_P D vwCl (mw cI cZ h r mk hg ed kn nb tb) H := hP
      have hD : va_D A (mw cI cZ h r mk hg ed kn nb tb) := hD
      rcases hw with ⟨rfl, hw⟩ | ⟨rfl, hw⟩
      · obtain ⟨j, hj, rfl⟩ := hw
        refine xr_if_eq (tgt := 19) hx hb dX1_shortest_13 (by decide) (by omega) (fun c13 => ?_) (fun c13 => ?_)
        · refine lv_aload_n hx hb dX1_shortest_19 rfl (lv_at hl 0 rfl) ?_
          refine cl_i0 (As := []) (rest := []) (C := RX1) F (M_workOut l D cI cZ h r mk hg ed kn nb tb G hM) (lw_V q260 q262 qs13 q21 q263) 0 rfl (by decide +kernel) ⟨Nat.le_of_ble_eq_true rfl, Nat.le_of_ble_eq_true rfl⟩ ⟨rfl, rfl⟩ ⟨Nat.zero_le _, Nat.zero_le _⟩ hK hP hD hS hA 0 1 rfl rfl hl.1 rfl (Nat.le_of_ble_eq_true rfl) dX1_shortest_20 (fun r1 u H locs hw hP hD hS => ?_)
          have hP : va_P D vwCl (mw cI cZ h r mk hg ed kn nb u) H := hP
          have hD : va_D A (mw cI cZ h r mk hg ed kn nb u) := hD
          generalize u = tb1 at hP hD hw
          obtain ⟨rfl, hH⟩ := hw
          refine lv_istore_n (lv' := [(3, .int (nI (stN kn mk) - 1)), (0, .ref h), (1, .int (nI i)), (2, .int (nI j))]) hx hb dX1_shortest_23 rfl hl (by decide) rfl (fun ls hl => ?_)
          refine lv_aload_n hx hb dX1_shortest_24 rfl (lv_at hl 1 rfl) ?_
          refine lv_iload_n hx hb dX1_shortest_25 rfl (lv_at hl 0 rfl) ?_
          refine lv_iload_n hx hb dX1_shortest_26 rfl (lv_at hl 2 rfl) ?_
          refine lv_iload_n hx hb dX1_shortest_27 rfl (lv_at hl 3 rfl) ?_
          refine cl_i0 (As := [.int (nI (stN kn mk) - 1), .int (nI i), .int (nI j)]) (rest := []) (C := RX1) F (M_length l D cI cZ h r mk hg ed kn nb tb1 (stN kn mk) (i) (j) hN6 hi hj (fun h0 => mHI_le hH (by omega))) (lw_V q281 q283 qs18 q21 q284) 3 rfl (by decide +kernel) ⟨Nat.le_of_ble_eq_true rfl, Nat.le_of_ble_eq_true rfl⟩ ⟨rfl, rfl⟩ ⟨Nat.zero_le _, Nat.zero_le _⟩ hK hP hD hS hA 0 1 rfl rfl hl.1 rfl (Nat.le_of_ble_eq_true rfl) dX1_shortest_28 (fun r2 u H locs hw2 hP hD hS => ?_)
          have hP : va_P D vwCl (mw cI cZ h r mk hg ed kn nb tb1) H := hP
          have hD : va_D A (mw cI cZ h r mk hg ed kn nb tb1) := hD
          rw [mL_of hH hdv hi hj] at hw2
          subst hw2
          have hml := mL_le (hdl (i) (j) hi hj)
          refine lv_istore (lv' := [(4, .int (nI (mL dv i j))), (3, .int (nI (stN kn mk) - 1)), (0, .ref h), (1, .int (nI i)), (2, .int (nI j))]) hx hb dX1_shortest_31 hl (by decide) rfl (fun ls hl => ?_)
          refine lv_iload hx hb dX1_shortest_33 (lv_at hl 0 rfl) ?_
          refine lv_ldc (v := nI 100000) hx hb hown (hts _ q268) dX1_shortest_35 ?_
          refine xr_icmp_ge (tgt := 45) hx hb dX1_shortest_37 (by decide) (by omega) (by omega) (fun c37 => ?_) (fun c37 => ?_)
          · refine lv_bipush (v := (-5)) hx hb dX1_shortest_45 (by decide) ?_
            exact hend ((-5)) tb1 _ _ _ _ dX1_shortest_47 rfl (by rw [anShort_in dv hi hj, if_pos (by omega)]) hP hD hS
          · refine lv_iload hx hb dX1_shortest_40 (lv_at hl 0 rfl) ?_
            refine lv_goto (tgt := 47) hx hb dX1_shortest_42 (by decide) ?_
            exact hend (nI (mL dv i j)) tb1 _ _ _ _ dX1_shortest_47 rfl (by rw [anShort_in dv hi hj, if_neg (by omega)]; unfold mL; rw [if_neg (by omega)]) hP hD hS
        · omega
      · refine xr_if_eq (tgt := 19) hx hb dX1_shortest_13 (by decide) (by omega) (fun c13 => ?_) (fun c13 => ?_)
        · omega
        · refine lv_bipush (v := (-2)) hx hb dX1_shortest_16 (by decide) ?_
          exact hend ((-2)) tb _ _ _ _ dX1_shortest_18 rfl (anShort_out dv (by rintro ⟨q1, q2⟩; first | exact hw q1 | exact hw q2)).symm hP hD hS
  · refine xr_if_ne (tgt := 16) hx hb dX1_shortest_5 (by decide) (by omega) (fun c5 => ?_) (fun c5 => ?_)
    · refine lv_bipush (v := (-2)) hx hb dX1_shortest_16 (by decide) ?_
      exact hend ((-2)) tb _ _ _ _ dX1_shortest_18 rfl (anShort_out dv (by rintro ⟨q1, q2⟩; first | exact hw q1 | exact hw q2)).symm hP hD hS
    · omega
set_option maxHeartbeats 4000000 in
set_option maxRecDepth 100000 in
theorem M_reach (l : Launch) (D : va_G) (cI cZ : ClassId) (h : Nat) (r : Nat → Nat) (mk hg : Nat) (ed kn nb tb : Nat → Nat) (G : GR) (dv : Nat → Nat → Nat) (hM : MOK G mk hg ed kn nb) (hdv : mDV G mk kn nb dv) (a : Int32) :
    ct_i l yX1_reach cX1_reach 5 .int (rmL 3 71) D (tyL cI cZ) [.ref h, .int a] (mw cI cZ h r mk hg ed kn nb tb) (Nat → Nat) (fun x _ => x = anReach dv a) (fun u => mw cI cZ h r mk hg ed kn nb u) := by
  refine ct_i_of (by decide) (Nat.le_of_ble_eq_true rfl) ?_
  intro p e s m args below meth c A Q ls F hK hP hD hS hA hend hl
  have F : CallFix p m c cX1_reach 5 s args lw_all RX1 := F
  obtain ⟨hx, hb, hml, hown, hts⟩ := id F
  have hl : lv_has ls 5 [(0, .ref h), (1, .int a)] := hl
  have hdl : ∀ a b, a < 8 → b < 8 → dv a b ≤ 224 := fun a b ha hb => (hdv a b ha hb).1
  have hN6 : stN kn mk ≤ 6 := hM.2.2.2.le mk (Nat.le_refl _)
  refine lv_aload_n hx hb dX1_reach_0 rfl (lv_at hl 0 rfl) ?_
  refine lv_iload_n hx hb dX1_reach_1 rfl (lv_at hl 1 rfl) ?_
  refine cl_i0 (As := [.int a]) (rest := []) (C := RX1) F (M_bad l D cI cZ (mw cI cZ h r mk hg ed kn nb tb) h a) (lw_V q256 q258 qs12 q21 q259) 1 rfl (by decide +kernel) ⟨Nat.le_of_ble_eq_true rfl, Nat.le_of_ble_eq_true rfl⟩ ⟨rfl, rfl⟩ ⟨Nat.zero_le _, Nat.zero_le _⟩ hK hP hD hS hA 0 1 rfl rfl hl.1 rfl (Nat.le_of_ble_eq_true rfl) dX1_reach_2 (fun r1 u H locs hw hP hD hS => ?_)
  have hP : va_P D vwCl (mw cI cZ h r mk hg ed kn nb tb) H := hP
  have hD : va_D A (mw cI cZ h r mk hg ed kn nb tb) := hD
  rcases hw with ⟨rfl, hw⟩ | ⟨rfl, hw⟩
  · obtain ⟨i, hi, rfl⟩ := hw
    refine xr_if_eq (tgt := 11) hx hb dX1_reach_5 (by decide) (by omega) (fun c5 => ?_) (fun c5 => ?_)
    · refine lv_aload_n hx hb dX1_reach_11 rfl (lv_at hl 0 rfl) ?_
      refine cl_i0 (As := []) (rest := []) (C := RX1) F (M_workOut l D cI cZ h r mk hg ed kn nb tb G hM) (lw_V q260 q262 qs13 q21 q263) 0 rfl (by decide +kernel) ⟨Nat.le_of_ble_eq_true rfl, Nat.le_of_ble_eq_true rfl⟩ ⟨rfl, rfl⟩ ⟨Nat.zero_le _, Nat.zero_le _⟩ hK hP hD hS hA 0 1 rfl rfl hl.1 rfl (Nat.le_of_ble_eq_true rfl) dX1_reach_12 (fun r1 u H locs hw hP hD hS => ?_)
      have hP : va_P D vwCl (mw cI cZ h r mk hg ed kn nb u) H := hP
      have hD : va_D A (mw cI cZ h r mk hg ed kn nb u) := hD
      generalize u = tb1 at hP hD hw
      obtain ⟨rfl, hH⟩ := hw
      refine lv_istore_n (lv' := [(2, .int (nI (stN kn mk) - 1)), (0, .ref h), (1, .int (nI i))]) hx hb dX1_reach_15 rfl hl (by decide) rfl (fun ls hl => ?_)
      refine lv_iconst (v := nI 0) hx hb dX1_reach_16 (by decide) ?_
      refine lv_istore_n (lv' := [(3, .int (nI 0)), (2, .int (nI (stN kn mk) - 1)), (0, .ref h), (1, .int (nI i))]) hx hb dX1_reach_17 rfl hl (by decide) rfl (fun ls hl => ?_)
      refine lv_iconst (v := nI 0) hx hb dX1_reach_18 (by decide) ?_
      refine lv_istore (lv' := [(4, .int (nI 0)), (3, .int (nI 0)), (2, .int (nI (stN kn mk) - 1)), (0, .ref h), (1, .int (nI i))]) hx hb dX1_reach_19 hl (by decide) rfl (fun ls hl => ?_)
      have loop : ∀ (n : Nat) (b : Nat) (H : Heap) (locs : List Loc) (ls : Array Slot), (b ≤ 8) → (9 ≤ b + n) → va_P D vwCl (mw cI cZ h r mk hg ed kn nb tb1) H → va_D A (mw cI cZ h r mk hg ed kn nb tb1) → va_S A s.heap H locs → lv_has ls 5 [(0, .ref h), (1, .int (nI i)), (2, .int (nI (stN kn mk) - 1)), (3, .int (nI (mk8 (dv i) b))), (4, .int (nI b))] → W p l e (rmL 3 71) s m args below meth c H locs 0 0 Q (F0 m 21 ls []) := by
        intro n
        induction n with
        | zero =>
          intro b H locs ls hbb hn hP hD hS hl
          omega
        | succ n ih =>
          intro b H locs ls hbb hn hP hD hS hl
          refine lv_iload hx hb dX1_reach_21 (lv_at hl 4 rfl) ?_
          refine lv_bipush (v := nI 8) hx hb dX1_reach_23 (by decide) ?_
          refine xr_icmp_ge (tgt := 54) hx hb dX1_reach_25 (by decide) (by omega) (by omega) (fun c25 => ?_) (fun c25 => ?_)
          · refine lv_iload_n hx hb dX1_reach_54 rfl (lv_at hl 3 rfl) ?_
            exact hend (nI (mk8 (dv i) b)) tb1 _ _ _ _ dX1_reach_55 rfl (by rw [show b = 8 by omega, anReach_in dv hi]) hP hD hS
          · refine lv_aload_n hx hb dX1_reach_28 rfl (lv_at hl 0 rfl) ?_
            refine lv_iload_n hx hb dX1_reach_29 rfl (lv_at hl 2 rfl) ?_
            refine lv_iload_n hx hb dX1_reach_30 rfl (lv_at hl 1 rfl) ?_
            refine lv_iload hx hb dX1_reach_31 (lv_at hl 4 rfl) ?_
            refine cl_i0 (As := [.int (nI (stN kn mk) - 1), .int (nI i), .int (nI b)]) (rest := []) (C := RX1) F (M_length l D cI cZ h r mk hg ed kn nb tb1 (stN kn mk) (i) (b) hN6 hi c25 (fun h0 => mHI_le hH (by omega))) (lw_V q281 q283 qs18 q21 q284) 3 rfl (by decide +kernel) ⟨Nat.le_of_ble_eq_true rfl, Nat.le_of_ble_eq_true rfl⟩ ⟨rfl, rfl⟩ ⟨Nat.zero_le _, Nat.zero_le _⟩ hK hP hD hS hA 0 1 rfl rfl hl.1 rfl (Nat.le_of_ble_eq_true rfl) dX1_reach_33 (fun r2 u H locs hw2 hP hD hS => ?_)
            have hP : va_P D vwCl (mw cI cZ h r mk hg ed kn nb tb1) H := hP
            have hD : va_D A (mw cI cZ h r mk hg ed kn nb tb1) := hD
            rw [mL_of hH hdv hi c25] at hw2
            subst hw2
            have hml := mL_le (hdl (i) (b) hi c25)
            refine lv_ldc (v := nI 100000) hx hb hown (hts _ q268) dX1_reach_36 ?_
            refine xr_icmp_ge (tgt := 48) hx hb dX1_reach_38 (by decide) (by omega) (by omega) (fun c38 => ?_) (fun c38 => ?_)
            · refine xr_iinc (lv' := [(4, .int (nI (b + 1))), (0, .ref h), (1, .int (nI i)), (2, .int (nI (stN kn mk) - 1)), (3, .int (nI (mk8 (dv i) b)))]) (k := 4) hx hb dX1_reach_48 hl rfl (by decide) rfl (fun ls hl => ?_)
              refine lv_goto (tgt := 21) hx hb dX1_reach_51 (by decide) ?_
              have e1 : mk8 (dv i) (b + 1) = mk8 (dv i) b := by rw [mk8, if_pos (by omega)]
              rw [← e1] at hl
              exact ih (b + 1) _ _ _ (by omega) (by omega) hP hD hS (lv_sub hl [1, 2, 3, 4, 0] rfl)
            · refine lv_iload_n hx hb dX1_reach_41 rfl (lv_at hl 3 rfl) ?_
              refine lv_iconst (v := nI 1) hx hb dX1_reach_42 (by decide) ?_
              refine lv_iload hx hb dX1_reach_43 (lv_at hl 4 rfl) ?_
              refine xr_ishl1 hx hb dX1_reach_45 (by omega) ?_
              refine xr_ior hx hb dX1_reach_46 ?_
              refine lv_istore_n (lv' := [(3, .int (nI ((mk8 (dv i) b) ||| (2 ^ b)))), (0, .ref h), (1, .int (nI i)), (2, .int (nI (stN kn mk) - 1)), (4, .int (nI b))]) hx hb dX1_reach_47 rfl hl (by decide) rfl (fun ls hl => ?_)
              refine xr_iinc (lv' := [(4, .int (nI (b + 1))), (3, .int (nI ((mk8 (dv i) b) ||| (2 ^ b)))), (0, .ref h), (1, .int (nI i)), (2, .int (nI (stN kn mk) - 1))]) (k := 4) hx hb dX1_reach_48 hl rfl (by decide) rfl (fun ls hl => ?_)
              refine lv_goto (tgt := 21) hx hb dX1_reach_51 (by decide) ?_
              have e1 : mk8 (dv i) (b + 1) = (mk8 (dv i) b) ||| (2 ^ b) := by rw [mk8, if_neg (by omega)]
              rw [← e1] at hl
              exact ih (b + 1) _ _ _ (by omega) (by omega) hP hD hS (lv_sub hl [2, 3, 4, 1, 0] rfl)
      exact loop 9 0 _ _ _ (by omega) (by omega) hP hD hS (lv_sub hl [3, 4, 2, 1, 0] rfl)
    · omega
  · refine xr_if_eq (tgt := 11) hx hb dX1_reach_5 (by decide) (by omega) (fun c5 => ?_) (fun c5 => ?_)
    · omega
    · refine lv_bipush (v := (-2)) hx hb dX1_reach_8 (by decide) ?_
      exact hend ((-2)) tb _ _ _ _ dX1_reach_10 rfl (anReach_out dv hw).symm hP hD hS
set_option maxHeartbeats 4000000 in
set_option maxRecDepth 100000 in
theorem M_pairs (l : Launch) (D : va_G) (cI cZ : ClassId) (h : Nat) (r : Nat → Nat) (mk hg : Nat) (ed kn nb tb : Nat → Nat) (G : GR) (dv : Nat → Nat → Nat) (hM : MOK G mk hg ed kn nb) (hdv : mDV G mk kn nb dv) :
    ct_i l yX1_pairs cX1_pairs 4 .int (rmL 3 71) D (tyL cI cZ) [.ref h] (mw cI cZ h r mk hg ed kn nb tb) (Nat → Nat) (fun x _ => x = nI (ctp dv 64)) (fun u => mw cI cZ h r mk hg ed kn nb u) := by
  refine ct_i_of (by decide) (Nat.le_of_ble_eq_true rfl) ?_
  intro p e s m args below meth c A Q ls F hK hP hD hS hA hend hl
  have F : CallFix p m c cX1_pairs 4 s args lw_all RX1 := F
  obtain ⟨hx, hb, hml, hown, hts⟩ := id F
  have hl : lv_has ls 4 [(0, .ref h)] := hl
  have hdl : ∀ a b, a < 8 → b < 8 → dv a b ≤ 224 := fun a b ha hb => (hdv a b ha hb).1
  have hN6 : stN kn mk ≤ 6 := hM.2.2.2.le mk (Nat.le_refl _)
  refine lv_aload_n hx hb dX1_pairs_0 rfl (lv_at hl 0 rfl) ?_
  refine cl_i0 (As := []) (rest := []) (C := RX1) F (M_workOut l D cI cZ h r mk hg ed kn nb tb G hM) (lw_V q260 q262 qs13 q21 q263) 0 rfl (by decide +kernel) ⟨Nat.le_of_ble_eq_true rfl, Nat.le_of_ble_eq_true rfl⟩ ⟨rfl, rfl⟩ ⟨Nat.zero_le _, Nat.zero_le _⟩ hK hP hD hS hA 0 1 rfl rfl hl.1 rfl (Nat.le_of_ble_eq_true rfl) dX1_pairs_1 (fun r1 u H locs hw hP hD hS => ?_)
  have hP : va_P D vwCl (mw cI cZ h r mk hg ed kn nb u) H := hP
  have hD : va_D A (mw cI cZ h r mk hg ed kn nb u) := hD
  generalize u = tb1 at hP hD hw
  obtain ⟨rfl, hH⟩ := hw
  refine lv_istore_n (lv' := [(1, .int (nI (stN kn mk) - 1)), (0, .ref h)]) hx hb dX1_pairs_4 rfl hl (by decide) rfl (fun ls hl => ?_)
  refine lv_iconst (v := nI 0) hx hb dX1_pairs_5 (by decide) ?_
  refine lv_istore_n (lv' := [(2, .int (nI 0)), (1, .int (nI (stN kn mk) - 1)), (0, .ref h)]) hx hb dX1_pairs_6 rfl hl (by decide) rfl (fun ls hl => ?_)
  refine lv_iconst (v := nI 0) hx hb dX1_pairs_7 (by decide) ?_
  refine lv_istore_n (lv' := [(3, .int (nI 0)), (2, .int (nI 0)), (1, .int (nI (stN kn mk) - 1)), (0, .ref h)]) hx hb dX1_pairs_8 rfl hl (by decide) rfl (fun ls hl => ?_)
  have loop : ∀ (n : Nat) (q : Nat) (H : Heap) (locs : List Loc) (ls : Array Slot), (q ≤ 64) → (65 ≤ q + n) → va_P D vwCl (mw cI cZ h r mk hg ed kn nb tb1) H → va_D A (mw cI cZ h r mk hg ed kn nb tb1) → va_S A s.heap H locs → lv_has ls 4 [(0, .ref h), (1, .int (nI (stN kn mk) - 1)), (2, .int (nI (ctp dv q))), (3, .int (nI q))] → W p l e (rmL 3 71) s m args below meth c H locs 0 0 Q (F0 m 9 ls []) := by
    intro n
    induction n with
    | zero =>
      intro q H locs ls hq hn hP hD hS hl
      omega
    | succ n ih =>
      intro q H locs ls hq hn hP hD hS hl
      refine lv_iload_n hx hb dX1_pairs_9 rfl (lv_at hl 3 rfl) ?_
      refine lv_bipush (v := nI 64) hx hb dX1_pairs_10 (by decide) ?_
      refine xr_icmp_ge (tgt := 42) hx hb dX1_pairs_12 (by decide) (by omega) (by omega) (fun c12 => ?_) (fun c12 => ?_)
      · refine lv_iload_n hx hb dX1_pairs_42 rfl (lv_at hl 2 rfl) ?_
        exact hend (nI (ctp dv q)) tb1 _ _ _ _ dX1_pairs_43 rfl (by rw [show q = 64 by omega]) hP hD hS
      · refine lv_aload_n hx hb dX1_pairs_15 rfl (lv_at hl 0 rfl) ?_
        refine lv_iload_n hx hb dX1_pairs_16 rfl (lv_at hl 1 rfl) ?_
        refine lv_iload_n hx hb dX1_pairs_17 rfl (lv_at hl 3 rfl) ?_
        refine lv_bipush (v := nI 8) hx hb dX1_pairs_18 (by decide) ?_
        refine xr_idiv hx hb dX1_pairs_20 (by omega) (by decide) (by decide) ?_
        refine lv_iload_n hx hb dX1_pairs_21 rfl (lv_at hl 3 rfl) ?_
        refine lv_bipush (v := nI 8) hx hb dX1_pairs_22 (by decide) ?_
        refine xr_irem hx hb dX1_pairs_24 (by omega) (by decide) (by decide) ?_
        refine cl_i0 (As := [.int (nI (stN kn mk) - 1), .int (nI (q / 8)), .int (nI (q % 8))]) (rest := []) (C := RX1) F (M_length l D cI cZ h r mk hg ed kn nb tb1 (stN kn mk) (q / 8) (q % 8) hN6 (by omega) (by omega) (fun h0 => mHI_le hH (by omega))) (lw_V q281 q283 qs18 q21 q284) 3 rfl (by decide +kernel) ⟨Nat.le_of_ble_eq_true rfl, Nat.le_of_ble_eq_true rfl⟩ ⟨rfl, rfl⟩ ⟨Nat.zero_le _, Nat.zero_le _⟩ hK hP hD hS hA 0 1 rfl rfl hl.1 rfl (Nat.le_of_ble_eq_true rfl) dX1_pairs_25 (fun r2 u H locs hw2 hP hD hS => ?_)
        have hP : va_P D vwCl (mw cI cZ h r mk hg ed kn nb tb1) H := hP
        have hD : va_D A (mw cI cZ h r mk hg ed kn nb tb1) := hD
        rw [mL_of hH hdv (by omega) (by omega)] at hw2
        subst hw2
        have hml := mL_le (hdl (q / 8) (q % 8) (by omega) (by omega))
        refine lv_ldc (v := nI 100000) hx hb hown (hts _ q268) dX1_pairs_28 ?_
        refine xr_icmp_ge (tgt := 36) hx hb dX1_pairs_30 (by decide) (by omega) (by omega) (fun c30 => ?_) (fun c30 => ?_)
        · refine xr_iinc (lv' := [(3, .int (nI (q + 1))), (0, .ref h), (1, .int (nI (stN kn mk) - 1)), (2, .int (nI (ctp dv q)))]) (k := 3) hx hb dX1_pairs_36 hl rfl (by decide) rfl (fun ls hl => ?_)
          refine lv_goto (tgt := 9) hx hb dX1_pairs_39 (by decide) ?_
          have e1 : ctp dv (q + 1) = ctp dv q := by rw [ctp, if_pos (by omega), Nat.add_zero]
          rw [← e1] at hl
          exact ih (q + 1) _ _ _ (by omega) (by omega) hP hD hS (lv_sub hl [1, 2, 3, 0] rfl)
        · refine xr_iinc (lv' := [(2, .int (nI ((ctp dv q) + 1))), (0, .ref h), (1, .int (nI (stN kn mk) - 1)), (3, .int (nI q))]) (k := 2) hx hb dX1_pairs_33 hl rfl (by decide) rfl (fun ls hl => ?_)
          refine xr_iinc (lv' := [(3, .int (nI (q + 1))), (2, .int (nI ((ctp dv q) + 1))), (0, .ref h), (1, .int (nI (stN kn mk) - 1))]) (k := 3) hx hb dX1_pairs_36 hl rfl (by decide) rfl (fun ls hl => ?_)
          refine lv_goto (tgt := 9) hx hb dX1_pairs_39 (by decide) ?_
          have e1 : ctp dv (q + 1) = ctp dv q + 1 := by rw [ctp, if_neg (by omega)]
          rw [← e1] at hl
          exact ih (q + 1) _ _ _ (by omega) (by omega) hP hD hS (lv_sub hl [2, 3, 1, 0] rfl)
  exact loop 65 0 _ _ _ (by omega) (by omega) hP hD hS (lv_sub hl [3, 2, 1, 0] rfl)
set_option maxHeartbeats 4000000 in
set_option maxRecDepth 100000 in
theorem M_loops (l : Launch) (D : va_G) (cI cZ : ClassId) (h : Nat) (r : Nat → Nat) (mk hg : Nat) (ed kn nb tb : Nat → Nat) (G : GR) (dv : Nat → Nat → Nat) (hM : MOK G mk hg ed kn nb) (hdv : mDV G mk kn nb dv) :
    ct_i l yX1_loops cX1_loops 4 .int (rmL 3 71) D (tyL cI cZ) [.ref h] (mw cI cZ h r mk hg ed kn nb tb) (Nat → Nat) (fun x _ => x = nI (mk8 (fun a => dv a a) 8)) (fun u => mw cI cZ h r mk hg ed kn nb u) := by
  refine ct_i_of (by decide) (Nat.le_of_ble_eq_true rfl) ?_
  intro p e s m args below meth c A Q ls F hK hP hD hS hA hend hl
  have F : CallFix p m c cX1_loops 4 s args lw_all RX1 := F
  obtain ⟨hx, hb, hml, hown, hts⟩ := id F
  have hl : lv_has ls 4 [(0, .ref h)] := hl
  have hdl : ∀ a b, a < 8 → b < 8 → dv a b ≤ 224 := fun a b ha hb => (hdv a b ha hb).1
  have hN6 : stN kn mk ≤ 6 := hM.2.2.2.le mk (Nat.le_refl _)
  refine lv_aload_n hx hb dX1_loops_0 rfl (lv_at hl 0 rfl) ?_
  refine cl_i0 (As := []) (rest := []) (C := RX1) F (M_workOut l D cI cZ h r mk hg ed kn nb tb G hM) (lw_V q260 q262 qs13 q21 q263) 0 rfl (by decide +kernel) ⟨Nat.le_of_ble_eq_true rfl, Nat.le_of_ble_eq_true rfl⟩ ⟨rfl, rfl⟩ ⟨Nat.zero_le _, Nat.zero_le _⟩ hK hP hD hS hA 0 1 rfl rfl hl.1 rfl (Nat.le_of_ble_eq_true rfl) dX1_loops_1 (fun r1 u H locs hw hP hD hS => ?_)
  have hP : va_P D vwCl (mw cI cZ h r mk hg ed kn nb u) H := hP
  have hD : va_D A (mw cI cZ h r mk hg ed kn nb u) := hD
  generalize u = tb1 at hP hD hw
  obtain ⟨rfl, hH⟩ := hw
  refine lv_istore_n (lv' := [(1, .int (nI (stN kn mk) - 1)), (0, .ref h)]) hx hb dX1_loops_4 rfl hl (by decide) rfl (fun ls hl => ?_)
  refine lv_iconst (v := nI 0) hx hb dX1_loops_5 (by decide) ?_
  refine lv_istore_n (lv' := [(2, .int (nI 0)), (1, .int (nI (stN kn mk) - 1)), (0, .ref h)]) hx hb dX1_loops_6 rfl hl (by decide) rfl (fun ls hl => ?_)
  refine lv_iconst (v := nI 0) hx hb dX1_loops_7 (by decide) ?_
  refine lv_istore_n (lv' := [(3, .int (nI 0)), (2, .int (nI 0)), (1, .int (nI (stN kn mk) - 1)), (0, .ref h)]) hx hb dX1_loops_8 rfl hl (by decide) rfl (fun ls hl => ?_)
  have loop : ∀ (n : Nat) (b : Nat) (H : Heap) (locs : List Loc) (ls : Array Slot), (b ≤ 8) → (9 ≤ b + n) → va_P D vwCl (mw cI cZ h r mk hg ed kn nb tb1) H → va_D A (mw cI cZ h r mk hg ed kn nb tb1) → va_S A s.heap H locs → lv_has ls 4 [(0, .ref h), (1, .int (nI (stN kn mk) - 1)), (2, .int (nI (mk8 (fun a => dv a a) b))), (3, .int (nI b))] → W p l e (rmL 3 71) s m args below meth c H locs 0 0 Q (F0 m 9 ls []) := by
    intro n
    induction n with
    | zero =>
      intro b H locs ls hbb hn hP hD hS hl
      omega
    | succ n ih =>
      intro b H locs ls hbb hn hP hD hS hl
      refine lv_iload_n hx hb dX1_loops_9 rfl (lv_at hl 3 rfl) ?_
      refine lv_bipush (v := nI 8) hx hb dX1_loops_10 (by decide) ?_
      refine xr_icmp_ge (tgt := 39) hx hb dX1_loops_12 (by decide) (by omega) (by omega) (fun c12 => ?_) (fun c12 => ?_)
      · refine lv_iload_n hx hb dX1_loops_39 rfl (lv_at hl 2 rfl) ?_
        exact hend (nI (mk8 (fun a => dv a a) b)) tb1 _ _ _ _ dX1_loops_40 rfl (by rw [show b = 8 by omega]) hP hD hS
      · refine lv_aload_n hx hb dX1_loops_15 rfl (lv_at hl 0 rfl) ?_
        refine lv_iload_n hx hb dX1_loops_16 rfl (lv_at hl 1 rfl) ?_
        refine lv_iload_n hx hb dX1_loops_17 rfl (lv_at hl 3 rfl) ?_
        refine lv_iload_n hx hb dX1_loops_18 rfl (lv_at hl 3 rfl) ?_
        refine cl_i0 (As := [.int (nI (stN kn mk) - 1), .int (nI b), .int (nI b)]) (rest := []) (C := RX1) F (M_length l D cI cZ h r mk hg ed kn nb tb1 (stN kn mk) (b) (b) hN6 c12 c12 (fun h0 => mHI_le hH (by omega))) (lw_V q281 q283 qs18 q21 q284) 3 rfl (by decide +kernel) ⟨Nat.le_of_ble_eq_true rfl, Nat.le_of_ble_eq_true rfl⟩ ⟨rfl, rfl⟩ ⟨Nat.zero_le _, Nat.zero_le _⟩ hK hP hD hS hA 0 1 rfl rfl hl.1 rfl (Nat.le_of_ble_eq_true rfl) dX1_loops_19 (fun r2 u H locs hw2 hP hD hS => ?_)
        have hP : va_P D vwCl (mw cI cZ h r mk hg ed kn nb tb1) H := hP
        have hD : va_D A (mw cI cZ h r mk hg ed kn nb tb1) := hD
        rw [mL_of hH hdv c12 c12] at hw2
        subst hw2
        have hml := mL_le (hdl (b) (b) c12 c12)
        refine lv_ldc (v := nI 100000) hx hb hown (hts _ q268) dX1_loops_22 ?_
        refine xr_icmp_ge (tgt := 33) hx hb dX1_loops_24 (by decide) (by omega) (by omega) (fun c24 => ?_) (fun c24 => ?_)
        · refine xr_iinc (lv' := [(3, .int (nI (b + 1))), (0, .ref h), (1, .int (nI (stN kn mk) - 1)), (2, .int (nI (mk8 (fun a => dv a a) b)))]) (k := 3) hx hb dX1_loops_33 hl rfl (by decide) rfl (fun ls hl => ?_)
          refine lv_goto (tgt := 9) hx hb dX1_loops_36 (by decide) ?_
          have e1 : mk8 (fun a => dv a a) (b + 1) = mk8 (fun a => dv a a) b := by rw [mk8, if_pos (by omega)]
          rw [← e1] at hl
          exact ih (b + 1) _ _ _ (by omega) (by omega) hP hD hS (lv_sub hl [1, 2, 3, 0] rfl)
        · refine lv_iload_n hx hb dX1_loops_27 rfl (lv_at hl 2 rfl) ?_
          refine lv_iconst (v := nI 1) hx hb dX1_loops_28 (by decide) ?_
          refine lv_iload_n hx hb dX1_loops_29 rfl (lv_at hl 3 rfl) ?_
          refine xr_ishl1 hx hb dX1_loops_30 (by omega) ?_
          refine xr_ior hx hb dX1_loops_31 ?_
          refine lv_istore_n (lv' := [(2, .int (nI ((mk8 (fun a => dv a a) b) ||| (2 ^ b)))), (0, .ref h), (1, .int (nI (stN kn mk) - 1)), (3, .int (nI b))]) hx hb dX1_loops_32 rfl hl (by decide) rfl (fun ls hl => ?_)
          refine xr_iinc (lv' := [(3, .int (nI (b + 1))), (2, .int (nI ((mk8 (fun a => dv a a) b) ||| (2 ^ b)))), (0, .ref h), (1, .int (nI (stN kn mk) - 1))]) (k := 3) hx hb dX1_loops_33 hl rfl (by decide) rfl (fun ls hl => ?_)
          refine lv_goto (tgt := 9) hx hb dX1_loops_36 (by decide) ?_
          have e1 : mk8 (fun a => dv a a) (b + 1) = mk8 (fun a => dv a a) b ||| 2 ^ b := by rw [mk8, if_neg (by omega)]
          rw [← e1] at hl
          exact ih (b + 1) _ _ _ (by omega) (by omega) hP hD hS (lv_sub hl [2, 3, 1, 0] rfl)
  exact loop 9 0 _ _ _ (by omega) (by omega) hP hD hS (lv_sub hl [3, 2, 1, 0] rfl)
set_option maxHeartbeats 4000000 in
set_option maxRecDepth 100000 in
theorem M_widest (l : Launch) (D : va_G) (cI cZ : ClassId) (h : Nat) (r : Nat → Nat) (mk hg : Nat) (ed kn nb tb : Nat → Nat) (G : GR) (dv : Nat → Nat → Nat) (hM : MOK G mk hg ed kn nb) (hdv : mDV G mk kn nb dv) :
    ct_i l yX1_widest cX1_widest 5 .int (rmL 3 71) D (tyL cI cZ) [.ref h] (mw cI cZ h r mk hg ed kn nb tb) (Nat → Nat) (fun x _ => x = anWide dv) (fun u => mw cI cZ h r mk hg ed kn nb u) := by
  refine ct_i_of (by decide) (Nat.le_of_ble_eq_true rfl) ?_
  intro p e s m args below meth c A Q ls F hK hP hD hS hA hend hl
  have F : CallFix p m c cX1_widest 5 s args lw_all RX1 := F
  obtain ⟨hx, hb, hml, hown, hts⟩ := id F
  have hl : lv_has ls 5 [(0, .ref h)] := hl
  have hdl : ∀ a b, a < 8 → b < 8 → dv a b ≤ 224 := fun a b ha hb => (hdv a b ha hb).1
  have hN6 : stN kn mk ≤ 6 := hM.2.2.2.le mk (Nat.le_refl _)
  refine lv_aload_n hx hb dX1_widest_0 rfl (lv_at hl 0 rfl) ?_
  refine cl_i0 (As := []) (rest := []) (C := RX1) F (M_workOut l D cI cZ h r mk hg ed kn nb tb G hM) (lw_V q260 q262 qs13 q21 q263) 0 rfl (by decide +kernel) ⟨Nat.le_of_ble_eq_true rfl, Nat.le_of_ble_eq_true rfl⟩ ⟨rfl, rfl⟩ ⟨Nat.zero_le _, Nat.zero_le _⟩ hK hP hD hS hA 0 1 rfl rfl hl.1 rfl (Nat.le_of_ble_eq_true rfl) dX1_widest_1 (fun r1 u H locs hw hP hD hS => ?_)
  have hP : va_P D vwCl (mw cI cZ h r mk hg ed kn nb u) H := hP
  have hD : va_D A (mw cI cZ h r mk hg ed kn nb u) := hD
  generalize u = tb1 at hP hD hw
  obtain ⟨rfl, hH⟩ := hw
  refine lv_istore_n (lv' := [(1, .int (nI (stN kn mk) - 1)), (0, .ref h)]) hx hb dX1_widest_4 rfl hl (by decide) rfl (fun ls hl => ?_)
  refine lv_bipush (v := (-5)) hx hb dX1_widest_5 (by decide) ?_
  refine lv_istore_n (lv' := [(2, .int (-5)), (1, .int (nI (stN kn mk) - 1)), (0, .ref h)]) hx hb dX1_widest_7 rfl hl (by decide) rfl (fun ls hl => ?_)
  refine lv_iconst (v := nI 0) hx hb dX1_widest_8 (by decide) ?_
  refine lv_istore_n (lv' := [(3, .int (nI 0)), (2, .int (-5)), (1, .int (nI (stN kn mk) - 1)), (0, .ref h)]) hx hb dX1_widest_9 rfl hl (by decide) rfl (fun ls hl => ?_)
  have loop : ∀ (n : Nat) (q : Nat) (H : Heap) (locs : List Loc) (ls : Array Slot), (q ≤ 64) → (65 ≤ q + n) → va_P D vwCl (mw cI cZ h r mk hg ed kn nb tb1) H → va_D A (mw cI cZ h r mk hg ed kn nb tb1) → va_S A s.heap H locs → lv_has ls 5 [(0, .ref h), (1, .int (nI (stN kn mk) - 1)), (2, .int (wm dv q)), (3, .int (nI q))] → W p l e (rmL 3 71) s m args below meth c H locs 0 0 Q (F0 m 10 ls []) := by
    intro n
    induction n with
    | zero =>
      intro q H locs ls hq hn hP hD hS hl
      omega
    | succ n ih =>
      intro q H locs ls hq hn hP hD hS hl
      refine lv_iload_n hx hb dX1_widest_10 rfl (lv_at hl 3 rfl) ?_
      refine lv_bipush (v := nI 64) hx hb dX1_widest_11 (by decide) ?_
      refine xr_icmp_ge (tgt := 53) hx hb dX1_widest_13 (by decide) (by omega) (by omega) (fun c13 => ?_) (fun c13 => ?_)
      · refine lv_iload_n hx hb dX1_widest_53 rfl (lv_at hl 2 rfl) ?_
        exact hend (wm dv q) tb1 _ _ _ _ dX1_widest_54 rfl (by rw [show q = 64 by omega]; rfl) hP hD hS
      · refine lv_aload_n hx hb dX1_widest_16 rfl (lv_at hl 0 rfl) ?_
        refine lv_iload_n hx hb dX1_widest_17 rfl (lv_at hl 1 rfl) ?_
        refine lv_iload_n hx hb dX1_widest_18 rfl (lv_at hl 3 rfl) ?_
        refine lv_bipush (v := nI 8) hx hb dX1_widest_19 (by decide) ?_
        refine xr_idiv hx hb dX1_widest_21 (by omega) (by decide) (by decide) ?_
        refine lv_iload_n hx hb dX1_widest_22 rfl (lv_at hl 3 rfl) ?_
        refine lv_bipush (v := nI 8) hx hb dX1_widest_23 (by decide) ?_
        refine xr_irem hx hb dX1_widest_25 (by omega) (by decide) (by decide) ?_
        refine cl_i0 (As := [.int (nI (stN kn mk) - 1), .int (nI (q / 8)), .int (nI (q % 8))]) (rest := []) (C := RX1) F (M_length l D cI cZ h r mk hg ed kn nb tb1 (stN kn mk) (q / 8) (q % 8) hN6 (by omega) (by omega) (fun h0 => mHI_le hH (by omega))) (lw_V q281 q283 qs18 q21 q284) 3 rfl (by decide +kernel) ⟨Nat.le_of_ble_eq_true rfl, Nat.le_of_ble_eq_true rfl⟩ ⟨rfl, rfl⟩ ⟨Nat.zero_le _, Nat.zero_le _⟩ hK hP hD hS hA 0 1 rfl rfl hl.1 rfl (Nat.le_of_ble_eq_true rfl) dX1_widest_26 (fun r2 u H locs hw2 hP hD hS => ?_)
        have hP : va_P D vwCl (mw cI cZ h r mk hg ed kn nb tb1) H := hP
        have hD : va_D A (mw cI cZ h r mk hg ed kn nb tb1) := hD
        rw [mL_of hH hdv (by omega) (by omega)] at hw2
        subst hw2
        have hml := mL_le (hdl (q / 8) (q % 8) (by omega) (by omega))
        refine lv_istore (lv' := [(4, .int (nI (mL dv (q / 8) (q % 8)))), (0, .ref h), (1, .int (nI (stN kn mk) - 1)), (2, .int (wm dv q)), (3, .int (nI q))]) hx hb dX1_widest_29 hl (by decide) rfl (fun ls hl => ?_)
        refine lv_iload hx hb dX1_widest_31 (lv_at hl 0 rfl) ?_
        refine lv_ldc (v := nI 100000) hx hb hown (hts _ q268) dX1_widest_33 ?_
        refine xr_icmp_ge (tgt := 47) hx hb dX1_widest_35 (by decide) (by omega) (by omega) (fun c35 => ?_) (fun c35 => ?_)
        · refine xr_iinc (lv' := [(3, .int (nI (q + 1))), (4, .int (nI (mL dv (q / 8) (q % 8)))), (0, .ref h), (1, .int (nI (stN kn mk) - 1)), (2, .int (wm dv q))]) (k := 4) hx hb dX1_widest_47 hl rfl (by decide) rfl (fun ls hl => ?_)
          refine lv_goto (tgt := 10) hx hb dX1_widest_50 (by decide) ?_
          have e0 := wm_step dv hdl (k := q) (by omega)
          have e1 := by first | exact e0.1 c35 | exact e0.2.1 c35 c41 | exact e0.2.2 c35 c41
          rw [← e1] at hl
          exact ih (q + 1) _ _ _ (by omega) (by omega) hP hD hS (lv_sub hl [2, 3, 4, 0] rfl)
        · refine lv_iload hx hb dX1_widest_38 (lv_at hl 0 rfl) ?_
          refine lv_iload_n hx hb dX1_widest_40 rfl (lv_at hl 3 rfl) ?_
          refine lv_icmp_le (tgt := 47) hx hb dX1_widest_41 (by decide) (fun c41 => ?_) (fun c41 => ?_)
          · refine xr_iinc (lv' := [(3, .int (nI (q + 1))), (4, .int (nI (mL dv (q / 8) (q % 8)))), (0, .ref h), (1, .int (nI (stN kn mk) - 1)), (2, .int (wm dv q))]) (k := 4) hx hb dX1_widest_47 hl rfl (by decide) rfl (fun ls hl => ?_)
            refine lv_goto (tgt := 10) hx hb dX1_widest_50 (by decide) ?_
            have e0 := wm_step dv hdl (k := q) (by omega)
            have e1 := by first | exact e0.1 c35 | exact e0.2.1 c35 c41 | exact e0.2.2 c35 c41
            rw [← e1] at hl
            exact ih (q + 1) _ _ _ (by omega) (by omega) hP hD hS (lv_sub hl [2, 3, 4, 0] rfl)
          · refine lv_iload hx hb dX1_widest_44 (lv_at hl 0 rfl) ?_
            refine lv_istore_n (lv' := [(2, .int (nI (mL dv (q / 8) (q % 8)))), (4, .int (nI (mL dv (q / 8) (q % 8)))), (0, .ref h), (1, .int (nI (stN kn mk) - 1)), (3, .int (nI q))]) hx hb dX1_widest_46 rfl hl (by decide) rfl (fun ls hl => ?_)
            refine xr_iinc (lv' := [(3, .int (nI (q + 1))), (2, .int (nI (mL dv (q / 8) (q % 8)))), (4, .int (nI (mL dv (q / 8) (q % 8)))), (0, .ref h), (1, .int (nI (stN kn mk) - 1))]) (k := 4) hx hb dX1_widest_47 hl rfl (by decide) rfl (fun ls hl => ?_)
            refine lv_goto (tgt := 10) hx hb dX1_widest_50 (by decide) ?_
            have e0 := wm_step dv hdl (k := q) (by omega)
            have e1 := by first | exact e0.1 c35 | exact e0.2.1 c35 c41 | exact e0.2.2 c35 c41
            rw [← e1] at hl
            exact ih (q + 1) _ _ _ (by omega) (by omega) hP hD hS (lv_sub hl [3, 4, 1, 0] rfl)
  exact loop 65 0 _ _ _ (by omega) (by omega) hP hD hS (lv_sub hl [3, 2, 1, 0] rfl)
end
section
/-! what ties the two together -/
abbrev MV : Type := Nat × Nat × (Nat → Nat) × (Nat → Nat)
abbrev mwA (cI cZ : ClassId) (h : Nat) (r : Nat → Nat) (v : MV) (ed tb : Nat → Nat) : va_W := mw cI cZ h r v.1 v.2.1 ed v.2.2.1 v.2.2.2 tb
def INV0 (G : GR) (mk ss mv ht : Nat) (kd fr tt st en fw bw : Nat → Nat) (mk2 hg : Nat) (ed kn nb : Nat → Nat) : Prop :=
  mk2 = mk ∧ hg = ht ∧ XGR G fw bw ∧ MGR G ed ∧ ht = stN kn mk ∧ mk ≤ 14 ∧ ss ≤ 2 * mk ∧ mv ≤ 4 * mk ∧ (∀ m, m < mv → kd m < 15) ∧ LG kn nb mk ∧ ∃ bd, SI (Mv mv kd fr tt) ss ht st en bd (stE kn nb mk)
def INV (u : XA) (fw bw : Nat → Nat) (v : MV) (ed : Nat → Nat) : Prop :=
  ∃ G, INV0 G u.1 u.2.1 u.2.2.1 u.2.2.2.1 u.2.2.2.2.1 u.2.2.2.2.2.1 u.2.2.2.2.2.2.1 u.2.2.2.2.2.2.2.1 u.2.2.2.2.2.2.2.2 fw bw v.1 v.2.1 ed v.2.2.1 v.2.2.2
theorem INV.bnd {u : XA} {fw bw : Nat → Nat} {v : MV} {ed : Nat → Nat} (h : INV u fw bw v ed) : u.1 ≤ 14 ∧ u.2.2.2.1 ≤ 6 ∧ u.2.2.1 ≤ 4 * u.1 ∧ v.1 ≤ 14 ∧ v.2.1 ≤ 6 ∧ v.1 = u.1 ∧ (∀ j, j < 24 → fw j < 256) ∧ (∀ j, j < 24 → bw j < 256) ∧ ∀ j, j < 192 → ed j ≤ 1 := by
  obtain ⟨G, h1, h2, h3, h4, h5, h6, h7, h8, h9, h10, bd, h11⟩ := h
  have h6' := h10.le u.1 (Nat.le_refl _)
  exact ⟨h6, by omega, h8, by omega, by omega, h1, h3.2.1, h3.2.2.1, h4.2.1⟩
theorem INV.ask {u : XA} {fw bw : Nat → Nat} {v : MV} {ed : Nat → Nat} (h : INV u fw bw v ed) :
    ∃ (G : GR) (dv : Nat → Nat → Nat), XOK G u.1 u.2.1 u.2.2.1 u.2.2.2.1 fw bw u.2.2.2.2.1 u.2.2.2.2.2.1 u.2.2.2.2.2.2.1 u.2.2.2.2.2.2.2.1 u.2.2.2.2.2.2.2.2 ∧ xDV G u.2.2.1 u.2.2.2.1 u.2.2.2.2.1 u.2.2.2.2.2.1 u.2.2.2.2.2.2.1 u.2.2.2.2.2.2.2.1 u.2.2.2.2.2.2.2.2 dv ∧ MOK G v.1 v.2.1 ed v.2.2.1 v.2.2.2 ∧ mDV G v.1 v.2.2.1 v.2.2.2 dv := by
  obtain ⟨G, h1, h2, h3, h4, h5, h6, h7, h8, h9, h10, bd, h11⟩ := h
  obtain ⟨mk, ss, mv, ht, kd, fr, tt, st, en⟩ := u
  obtain ⟨mk2, hg, kn, nb⟩ := v
  dsimp only at h1 h2 h3 h4 h5 h6 h7 h8 h9 h10 h11 ⊢
  have h6' := h10.le mk (Nat.le_refl _)
  have hX : XOK G mk ss mv ht fw bw kd fr tt st en := by
    refine ⟨h3, by omega, by omega, by omega, h6, ?_, ?_⟩
    · intro i hi
      have := h11.2.2.2 (kd i) (fr i) (tt i) ⟨i, hi, rfl, rfl, rfl⟩
      exact ⟨h9 i hi, this.1, this.2⟩
    · intro k hk
      have := h11.ends hk
      exact ⟨this.2.2.1, this.2.2.2⟩
  refine ⟨G, fun a b => if ht = 0 then 0 else mn (fun d => Pa G (Mv mv kd fr tt) (st (ht - 1)) a d (en (ht - 1)) b), hX, fun a b _ _ => rfl, ⟨h4, by omega, by rw [h1, h2]; exact h5, by rw [h1]; exact h10⟩, ?_⟩
  intro a b ha hb
  refine ⟨xDV.le (dv := fun a b => if ht = 0 then 0 else mn (fun d => Pa G (Mv mv kd fr tt) (st (ht - 1)) a d (en (ht - 1)) b)) (fun a b _ _ => rfl) hX ha hb, ?_⟩
  dsimp only
  rw [h1, ← h5]
  by_cases q : ht = 0
  · rw [if_pos q, if_pos q]
  · rw [if_neg q, if_neg q]
    exact mn_eq (fun d => (h11.2.2.1 (ht - 1) (by omega)).2.2.2.2.2 G a d b)
theorem LG_ext {kn nb : Nat → Nat} {mk kk nbv : Nat} (h : LG kn nb mk) (hn : (kk < 3 ∧ stN kn mk < 6 ∧ nbv ≤ 8 ∧ (kk < 2 → 1 ≤ nbv ∧ nbv ≤ 3)) ∨ ((kk = 3 ∨ kk = 4) ∧ 2 ≤ stN kn mk) ∨ (kk = 5 ∧ 1 ≤ stN kn mk)) : LG (va_up kn mk kk) (va_up nb mk nbv) (mk + 1) := by
  intro i hi
  have e1 : stN (va_up kn mk kk) i = stN kn i := stN_cong i (fun j hj => up_n (by omega))
  by_cases q : i = mk
  · subst q
    rw [up_s, up_s, e1]
    exact hn
  · rw [up_n q, up_n q, e1]
    exact h i (by omega)
theorem st_ext (kn nb : Nat → Nat) (mk kk nbv : Nat) : stN (va_up kn mk kk) mk = stN kn mk ∧ stE (va_up kn mk kk) (va_up nb mk nbv) mk = stE kn nb mk :=
  ⟨stN_cong mk (fun j hj => up_n (by omega)), stE_cong mk (fun j hj => up_n (by omega)) (fun j hj => up_n (by omega))⟩
theorem INV.push {u u' : XA} {fw bw : Nat → Nat} {v v' : MV} {ed : Nat → Nat} {k kk nbv : Nat} {x x' : Int32} (h : INV u fw bw v ed) (hk : k = knd kk nbv) (hk15 : k < 15) (hkk : kk < 3) (hnb : nbv ≤ 8) (hnb2 : kk < 2 → 1 ≤ nbv ∧ nbv ≤ 3)
    (hX : xPush k u.1 u.2.1 u.2.2.1 u.2.2.2.1 u.2.2.2.2.1 u.2.2.2.2.2.1 u.2.2.2.2.2.2.1 u.2.2.2.2.2.2.2.1 u.2.2.2.2.2.2.2.2 x u') (hM : mStep kk nbv 0 v.1 v.2.1 v.2.2.1 v.2.2.2 x' v') : x = x' ∧ INV u' fw bw v' ed := by
  have hh := h
  obtain ⟨G, h1, h2, h3, h4, h5, h6, h7, h8, h9, h10, bd, h11⟩ := h
  rw [h1, h2] at hM
  rcases hX with ⟨a1, a2, a3⟩ | ⟨a1, a2, a3⟩
  · rcases hM with ⟨b1, b2, b3⟩ | ⟨b1, b2, b3⟩
    · refine ⟨by rw [a2, b2], ?_⟩
      have f1 : u' = u := a3
      have f2 : v' = v := by
        rw [b3]
        show _ = (v.1, v.2.1, v.2.2.1, v.2.2.2)
        rw [h1, h2]
      rw [f1, f2]
      exact hh
    · exact absurd b1 a1
  · rcases hM with ⟨b1, b2, b3⟩ | ⟨b1, b2, b3⟩
    · exact absurd a1 b1
    · have hr := rf_0 a1
      have hr2 := hr.2.1 rfl
      obtain ⟨mk, ss, mv, ht, kd, fr, tt, st, en⟩ := u
      obtain ⟨mk2, hg, kn, nb⟩ := v
      dsimp only at h1 h2 h3 h4 h5 h6 h7 h8 h9 h10 h11 a1 a2 a3 b1 b2 b3 hr hr2
      obtain ⟨e1, e2⟩ := st_ext kn nb mk kk nbv
      subst a3
      subst b3
      refine ⟨by rw [a2, b2]; rfl, G, ?_⟩
      dsimp only
      refine ⟨rfl, rfl, h3, h4, ?_, by omega, by omega, by omega, ?_, LG_ext h10 (Or.inl ⟨hkk, by omega, hnb, hnb2⟩), va_up bd (ht + 1) (ss + 2), ?_⟩
      · rw [stN_p (by rw [up_s]; exact hkk), e1, ← h5]
      · intro i hi
        by_cases q : i = mv
        · rw [q, up_s]
          exact hk15
        · rw [up_n q]
          exact h9 i (by omega)
      · rw [Mv_add, stE_p (by rw [up_s]; exact hkk), e1, e2, up_s, up_s, ← hk, ← h5]
        exact h11.push k
theorem INV.then_ {u u' : XA} {fw bw : Nat → Nat} {v v' : MV} {ed : Nat → Nat} {x x' : Int32} (h : INV u fw bw v ed)
    (hX : xThen u.1 u.2.1 u.2.2.1 u.2.2.2.1 u.2.2.2.2.1 u.2.2.2.2.2.1 u.2.2.2.2.2.2.1 u.2.2.2.2.2.2.2.1 u.2.2.2.2.2.2.2.2 x u') (hM : mStep 3 1 2 v.1 v.2.1 v.2.2.1 v.2.2.2 x' v') : x = x' ∧ INV u' fw bw v' ed := by
  have hh := h
  obtain ⟨G, h1, h2, h3, h4, h5, h6, h7, h8, h9, h10, bd, h11⟩ := h
  rw [h1, h2] at hM
  rcases hX with ⟨a1, a2, a3⟩ | ⟨a1, a2, a3⟩
  · rcases hM with ⟨b1, b2, b3⟩ | ⟨b1, b2, b3⟩
    · refine ⟨by rw [a2, b2], ?_⟩
      have f1 : u' = u := a3
      have f2 : v' = v := by
        rw [b3]
        show _ = (v.1, v.2.1, v.2.2.1, v.2.2.2)
        rw [h1, h2]
      rw [f1, f2]
      exact hh
    · exact absurd b1 a1
  · rcases hM with ⟨b1, b2, b3⟩ | ⟨b1, b2, b3⟩
    · exact absurd a1 b1
    · have hr := rf_0 a1
      have hr2 := hr.2.2
      obtain ⟨mk, ss, mv, ht, kd, fr, tt, st, en⟩ := u
      obtain ⟨mk2, hg, kn, nb⟩ := v
      dsimp only at h1 h2 h3 h4 h5 h6 h7 h8 h9 h10 h11 a1 a2 a3 b1 b2 b3 hr hr2
      obtain ⟨e1, e2⟩ := st_ext kn nb mk 3 1
      obtain ⟨n, rfl⟩ : ∃ n, ht = n + 2 := ⟨ht - 2, by omega⟩
      rw [show n + 2 - 1 = n + 1 from rfl, show n + 1 - 1 = n from rfl] at a3
      rw [show n + 2 - 1 = n + 1 from rfl] at a2
      rw [show n + 2 - 2 + 1 = n + 1 from rfl] at b2 b3
      subst a3
      subst b3
      refine ⟨by rw [a2, b2], G, ?_⟩
      dsimp only
      refine ⟨rfl, rfl, h3, h4, ?_, by omega, by omega, by omega, ?_, LG_ext h10 (Or.inr (Or.inl ⟨Or.inl rfl, by omega⟩)), va_up bd (n + 1) ss, ?_⟩
      · rw [stN_j (by rw [up_s]; exact Or.inl rfl), e1, ← h5]
        rfl
      · intro i hi
        by_cases q : i = mv
        · rw [q, up_s]
          omega
        · rw [up_n q]
          exact h9 i (by omega)
      · rw [Mv_add, stE_3 (by rw [up_s]), e1, e2, ← h5]
        exact h11.seq
theorem kd4_lt {mv : Nat} {kd : Nat → Nat} (h : ∀ m, m < mv → kd m < 15) : ∀ m, m < mv + 1 + 1 + 1 + 1 → va_up (va_up (va_up (va_up kd mv 6) (mv + 1) 6) (mv + 1 + 1) 6) (mv + 1 + 1 + 1) 6 m < 15 := by
  intro i hi
  by_cases q3 : i = mv + 1 + 1 + 1
  · rw [q3, up_s]; omega
  rw [up_n q3]
  by_cases q2 : i = mv + 1 + 1
  · rw [q2, up_s]; omega
  rw [up_n q2]
  by_cases q1 : i = mv + 1
  · rw [q1, up_s]; omega
  rw [up_n q1]
  by_cases q0 : i = mv
  · rw [q0, up_s]; omega
  rw [up_n q0]
  exact h i (by omega)
theorem INV.or_ {u u' : XA} {fw bw : Nat → Nat} {v v' : MV} {ed : Nat → Nat} {x x' : Int32} (h : INV u fw bw v ed)
    (hX : xOr u.1 u.2.1 u.2.2.1 u.2.2.2.1 u.2.2.2.2.1 u.2.2.2.2.2.1 u.2.2.2.2.2.2.1 u.2.2.2.2.2.2.2.1 u.2.2.2.2.2.2.2.2 x u') (hM : mStep 4 1 2 v.1 v.2.1 v.2.2.1 v.2.2.2 x' v') : x = x' ∧ INV u' fw bw v' ed := by
  have hh := h
  obtain ⟨G, h1, h2, h3, h4, h5, h6, h7, h8, h9, h10, bd, h11⟩ := h
  rw [h1, h2] at hM
  rcases hX with ⟨a1, a2, a3⟩ | ⟨a1, a2, a3⟩
  · rcases hM with ⟨b1, b2, b3⟩ | ⟨b1, b2, b3⟩
    · refine ⟨by rw [a2, b2], ?_⟩
      have f1 : u' = u := a3
      have f2 : v' = v := by
        rw [b3]
        show _ = (v.1, v.2.1, v.2.2.1, v.2.2.2)
        rw [h1, h2]
      rw [f1, f2]
      exact hh
    · exact absurd b1 a1
  · rcases hM with ⟨b1, b2, b3⟩ | ⟨b1, b2, b3⟩
    · exact absurd a1 b1
    · have hr := rf_0 a1
      have hr2 := hr.2.2
      obtain ⟨mk, ss, mv, ht, kd, fr, tt, st, en⟩ := u
      obtain ⟨mk2, hg, kn, nb⟩ := v
      dsimp only at h1 h2 h3 h4 h5 h6 h7 h8 h9 h10 h11 a1 a2 a3 b1 b2 b3 hr hr2
      obtain ⟨e1, e2⟩ := st_ext kn nb mk 4 1
      obtain ⟨n, rfl⟩ : ∃ n, ht = n + 2 := ⟨ht - 2, by omega⟩
      rw [show n + 2 - 1 = n + 1 from rfl, show n + 1 - 1 = n from rfl] at a3
      rw [show n + 2 - 1 = n + 1 from rfl] at a2
      rw [show n + 2 - 2 + 1 = n + 1 from rfl] at b2 b3
      subst a3
      subst b3
      refine ⟨by rw [a2, b2], G, ?_⟩
      dsimp only
      refine ⟨rfl, rfl, h3, h4, ?_, by omega, by omega, by omega, kd4_lt h9, LG_ext h10 (Or.inr (Or.inl ⟨Or.inr rfl, by omega⟩)), va_up bd (n + 1) (ss + 2), ?_⟩
      · rw [stN_j (by rw [up_s]; exact Or.inr rfl), e1, ← h5]
        rfl
      · rw [Mv_add, Mv_add, Mv_add, Mv_add, stE_4 (by rw [up_s]), e1, e2, ← h5]
        exact h11.alt
theorem INV.star_ {u u' : XA} {fw bw : Nat → Nat} {v v' : MV} {ed : Nat → Nat} {x x' : Int32} (h : INV u fw bw v ed)
    (hX : xStar u.1 u.2.1 u.2.2.1 u.2.2.2.1 u.2.2.2.2.1 u.2.2.2.2.2.1 u.2.2.2.2.2.2.1 u.2.2.2.2.2.2.2.1 u.2.2.2.2.2.2.2.2 x u') (hM : mStep 5 1 1 v.1 v.2.1 v.2.2.1 v.2.2.2 x' v') : x = x' ∧ INV u' fw bw v' ed := by
  have hh := h
  obtain ⟨G, h1, h2, h3, h4, h5, h6, h7, h8, h9, h10, bd, h11⟩ := h
  rw [h1, h2] at hM
  rcases hX with ⟨a1, a2, a3⟩ | ⟨a1, a2, a3⟩
  · rcases hM with ⟨b1, b2, b3⟩ | ⟨b1, b2, b3⟩
    · refine ⟨by rw [a2, b2], ?_⟩
      have f1 : u' = u := a3
      have f2 : v' = v := by
        rw [b3]
        show _ = (v.1, v.2.1, v.2.2.1, v.2.2.2)
        rw [h1, h2]
      rw [f1, f2]
      exact hh
    · exact absurd b1 a1
  · rcases hM with ⟨b1, b2, b3⟩ | ⟨b1, b2, b3⟩
    · exact absurd a1 b1
    · have hr := rf_0 a1
      have hr2 := hr.2.2
      obtain ⟨mk, ss, mv, ht, kd, fr, tt, st, en⟩ := u
      obtain ⟨mk2, hg, kn, nb⟩ := v
      dsimp only at h1 h2 h3 h4 h5 h6 h7 h8 h9 h10 h11 a1 a2 a3 b1 b2 b3 hr hr2
      obtain ⟨e1, e2⟩ := st_ext kn nb mk 5 1
      obtain ⟨n, rfl⟩ : ∃ n, ht = n + 1 := ⟨ht - 1, by omega⟩
      rw [show n + 1 - 1 = n from rfl] at a3
      rw [show n + 1 - 1 + 1 = n + 1 from rfl] at b2 b3
      subst a3
      subst b3
      refine ⟨by rw [a2, b2], G, ?_⟩
      dsimp only
      refine ⟨rfl, rfl, h3, h4, ?_, by omega, by omega, by omega, kd4_lt h9, LG_ext h10 (Or.inr (Or.inr ⟨rfl, by omega⟩)), va_up bd (n + 1) (ss + 2), ?_⟩
      · rw [stN_s (by rw [up_s]), e1, ← h5]
      · rw [Mv_add, Mv_add, Mv_add, Mv_add, stE_5 (by rw [up_s]), e1, e2, ← h5]
        exact h11.star
theorem Mv_0 (kd fr tt : Nat → Nat) : ∀ k u v, ¬ Mv 0 kd fr tt k u v := by
  rintro k u v ⟨i, hi, -⟩
  omega
theorem INV.clear_ {u : XA} {fw bw : Nat → Nat} {v : MV} {ed : Nat → Nat} (h : INV u fw bw v ed) : INV (0, 0, 0, 0, u.2.2.2.2.1, u.2.2.2.2.2.1, u.2.2.2.2.2.2.1, u.2.2.2.2.2.2.2.1, u.2.2.2.2.2.2.2.2) fw bw (0, 0, v.2.2.1, v.2.2.2) ed := by
  obtain ⟨G, h1, h2, h3, h4, h5, h6, h7, h8, h9, h10, bd, h11⟩ := h
  exact ⟨G, rfl, rfl, h3, h4, rfl, by dsimp only; omega, by dsimp only; omega, by dsimp only; omega, fun m hm => absurd hm (Nat.not_lt_zero m), fun i hi => absurd hi (Nat.not_lt_zero i), fun _ => 0, SI_0 (Mv_0 _ _ _)⟩
theorem INV_0 : INV (0, 0, 0, 0, fun _ => 0, fun _ => 0, fun _ => 0, fun _ => 0, fun _ => 0) (fun _ => 0) (fun _ => 0) (0, 0, fun _ => 0, fun _ => 1) (fun _ => 0) := by
  refine ⟨fun _ _ _ => False, rfl, rfl, ⟨fun _ _ _ h => h.elim, fun _ _ => Nat.zero_lt_succ 255, fun _ _ => Nat.zero_lt_succ 255, ?_, ?_⟩, ⟨fun _ _ _ h => h.elim, fun _ _ => Nat.zero_le 1, ?_⟩, rfl, by dsimp only; omega, by dsimp only; omega, by dsimp only; omega, fun m hm => absurd hm (Nat.not_lt_zero m), fun i hi => absurd hi (Nat.not_lt_zero i), fun _ => 0, SI_0 (Mv_0 _ _ _)⟩
  · intro l a b _ _
    simp
  · intro l a b _ _
    simp
  · intro l a b _ _ _
    simp
theorem INV.label_ {u u' : XA} {fw bw : Nat → Nat} {v v' : MV} {ed : Nat → Nat} {x x' n : Int32} (o kk : Nat) (hkk : kk < 2) (ho : ∀ j, j < 3 → o + j = knd kk (j + 1) ∧ o + j < 15) (h : INV u fw bw v ed)
    (hX : (¬ inR n 3 ∧ x = -1 ∧ u' = u) ∨ (∃ j, j < 3 ∧ n = nI j ∧ xPush (o + j) u.1 u.2.1 u.2.2.1 u.2.2.2.1 u.2.2.2.2.1 u.2.2.2.2.2.1 u.2.2.2.2.2.2.1 u.2.2.2.2.2.2.2.1 u.2.2.2.2.2.2.2.2 x u'))
    (hM : (¬ inR n 3 ∧ x' = -1 ∧ v' = v) ∨ (∃ j, j < 3 ∧ n = nI j ∧ mStep kk (j + 1) 0 v.1 v.2.1 v.2.2.1 v.2.2.2 x' v')) : x = x' ∧ INV u' fw bw v' ed := by
  rcases hX with ⟨a1, a2, a3⟩ | ⟨j, a1, a2, a3⟩
  · rcases hM with ⟨b1, b2, b3⟩ | ⟨k, b1, b2, b3⟩
    · rw [a2, b2, a3, b3]
      exact ⟨rfl, h⟩
    · exact absurd ⟨k, b1, b2⟩ a1
  · rcases hM with ⟨b1, b2, b3⟩ | ⟨k, b1, b2, b3⟩
    · exact absurd ⟨j, a1, a2⟩ b1
    · have e : j = k := by
        rw [a2] at b2
        exact (nI_eq (by omega) (by omega)).mp b2
      subst e
      exact h.push (ho j a1).1 (ho j a1).2 (by omega) (by omega) (fun _ => by omega) a3 b3
theorem INV.at_ {u u' : XA} {fw bw : Nat → Nat} {v v' : MV} {ed : Nat → Nat} {x x' n : Int32} (h : INV u fw bw v ed)
    (hX : (¬ n = -1 ∧ ¬ inR n 8 ∧ x = -2 ∧ u' = u) ∨ (n = -1 ∧ xPush 6 u.1 u.2.1 u.2.2.1 u.2.2.2.1 u.2.2.2.2.1 u.2.2.2.2.2.1 u.2.2.2.2.2.2.1 u.2.2.2.2.2.2.2.1 u.2.2.2.2.2.2.2.2 x u') ∨ (∃ j, j < 8 ∧ n = nI j ∧ xPush (7 + j) u.1 u.2.1 u.2.2.1 u.2.2.2.1 u.2.2.2.2.1 u.2.2.2.2.2.1 u.2.2.2.2.2.2.1 u.2.2.2.2.2.2.2.1 u.2.2.2.2.2.2.2.2 x u'))
    (hM : (¬ n = -1 ∧ ¬ inR n 8 ∧ x' = -2 ∧ v' = v) ∨ (n = -1 ∧ mStep 2 0 0 v.1 v.2.1 v.2.2.1 v.2.2.2 x' v') ∨ (∃ j, j < 8 ∧ n = nI j ∧ mStep 2 (j + 1) 0 v.1 v.2.1 v.2.2.1 v.2.2.2 x' v')) : x = x' ∧ INV u' fw bw v' ed := by
  have hne : ∀ j, j < 8 → ¬ nI j = -1 := by decide
  rcases hX with ⟨a0, a1, a2, a3⟩ | ⟨a1, a3⟩ | ⟨j, a1, a2, a3⟩
  · rcases hM with ⟨b0, b1, b2, b3⟩ | ⟨b1, b3⟩ | ⟨k, b1, b2, b3⟩
    · rw [a2, b2, a3, b3]
      exact ⟨rfl, h⟩
    · exact absurd b1 a0
    · exact absurd ⟨k, b1, b2⟩ a1
  · rcases hM with ⟨b0, b1, b2, b3⟩ | ⟨b1, b3⟩ | ⟨k, b1, b2, b3⟩
    · exact absurd a1 b0
    · exact h.push (k := 6) (kk := 2) (nbv := 0) rfl (by omega) (by omega) (by omega) (fun q => by omega) a3 b3
    · exact absurd (b2.symm.trans a1) (hne k b1)
  · rcases hM with ⟨b0, b1, b2, b3⟩ | ⟨b1, b3⟩ | ⟨k, b1, b2, b3⟩
    · exact absurd ⟨j, a1, a2⟩ b1
    · exact absurd (a2.symm.trans b1) (hne j a1)
    · have e : j = k := by
        rw [a2] at b2
        exact (nI_eq (by omega) (by omega)).mp b2
      subst e
      exact h.push (k := 7 + j) (kk := 2) (nbv := j + 1) rfl (by omega) (by omega) (by omega) (fun q => by omega) a3 b3
theorem INV.edge_ {u : XA} {fw bw : Nat → Nat} {v : MV} {ed ed' : Nat → Nat} {fb : (Nat → Nat) × (Nat → Nat)} {t : Nat} {x x' lab ends : Int32} (ht : t < 2) (h : INV u fw bw v ed) (hX : xEdge lab ends t fw bw x fb) (hM : mEdge lab ends t ed x' ed') : x = x' ∧ INV u fb.1 fb.2 v ed' := by
  rcases hX with ⟨a1, a2, a3⟩ | ⟨a0, a1, a2, a3⟩ | ⟨l, e, a1, a2, a3, a4, a5, a6⟩
  · rcases hM with ⟨b1, b2, b3⟩ | ⟨b0, b1, b2, b3⟩ | ⟨l', e', b1, b2, b3, b4, b5, b6⟩
    · rw [a2, b2, a3, b3]
      exact ⟨rfl, h⟩
    · exact absurd b0 a1
    · exact absurd ⟨l', b1, b3⟩ a1
  · rcases hM with ⟨b1, b2, b3⟩ | ⟨b0, b1, b2, b3⟩ | ⟨l', e', b1, b2, b3, b4, b5, b6⟩
    · exact absurd a0 b1
    · rw [a2, b2, a3, b3]
      exact ⟨rfl, h⟩
    · exact absurd ⟨e', b2, b4⟩ a1
  · rcases hM with ⟨b1, b2, b3⟩ | ⟨b0, b1, b2, b3⟩ | ⟨l', e', b1, b2, b3, b4, b5, b6⟩
    · exact absurd ⟨l, a1, a3⟩ b1
    · exact absurd ⟨e, a2, a4⟩ b1
    · have el : l = l' := by
        rw [a3] at b3
        exact (nI_eq (by omega) (by omega)).mp b3
      have ee : e = e' := by
        rw [a4] at b4
        exact (nI_eq (by omega) (by omega)).mp b4
      subst el
      subst ee
      obtain ⟨G, h1, h2, ⟨g1, g2, g3, g4, g5⟩, ⟨m1, m2, m3⟩, hrest⟩ := h
      have k1 := g4 l (e % 8) (e / 8) a1 (by omega)
      have k2 := m3 l (e % 8) (e / 8) a1 (by omega) (by omega)
      have ei : l * 64 + e % 8 + 8 * (e / 8) = l * 64 + e := by omega
      rw [ei] at k2
      have k3 := m2 (l * 64 + e) (by omega)
      have k4 := tb_iff (fw (l * 8 + e % 8)) (e / 8)
      refine ⟨?_, ?_⟩
      · rw [a5, b5]
        by_cases q : ed (l * 64 + e) = 0
        · rw [if_pos q]
          have q2 : ¬ (fw (l * 8 + e % 8) / 2 ^ (e / 8) &&& 1 = 1) := fun z => by
            have := k2.mp (k1.mpr ⟨by omega, k4.mp z⟩)
            omega
          rw [Nat.and_one_is_mod] at q2 ⊢
          rw [show fw (l * 8 + e % 8) / 2 ^ (e / 8) % 2 = 0 by omega]
        · rw [if_neg q]
          have q2 := k4.mpr (k1.mp (k2.mpr (by omega))).2
          rw [q2]
      · subst a6
        subst b6
        show INV u (va_up fw (l * 8 + e % 8) (sb (fw (l * 8 + e % 8)) (e / 8) t)) (va_up bw (l * 8 + e / 8) (sb (bw (l * 8 + e / 8)) (e % 8) t)) v (va_up ed (l * 64 + e) t)
        refine ⟨fun l' a' b' => if l' = l ∧ a' = e % 8 ∧ b' = e / 8 then t ≠ 0 else G l' a' b', h1, h2, ⟨?_, ?_, ?_, ?_, ?_⟩, ⟨?_, ?_, ?_⟩, hrest⟩
        · intro l' a' b' hz
          by_cases q : l' = l ∧ a' = e % 8 ∧ b' = e / 8
          · omega
          · rw [if_neg q] at hz
            exact g1 l' a' b' hz
        · intro j hj
          by_cases q : j = l * 8 + e % 8
          · rw [q, up_s]
            exact sb_lt _ _ _ (g2 _ (by omega)) (by omega)
          · rw [up_n q]
            exact g2 j hj
        · intro j hj
          by_cases q : j = l * 8 + e / 8
          · rw [q, up_s]
            exact sb_lt _ _ _ (g3 _ (by omega)) (by omega)
          · rw [up_n q]
            exact g3 j hj
        · intro l' a' b' hl ha
          have g4' := g4 l' a' b' hl ha
          dsimp only
          by_cases q : l' * 8 + a' = l * 8 + e % 8
          · have q1 : l' = l := by omega
            have q2 : a' = e % 8 := by omega
            rw [q, up_s]
            rw [q] at g4'
            by_cases q3 : b' < 8
            · rw [sb_bit _ _ _ _ q3]
              by_cases q4 : b' = e / 8
              · rw [if_pos ⟨q1, q2, q4⟩, if_pos q4]
                simp [q3]
              · rw [if_neg (fun z => q4 z.2.2), if_neg q4]
                exact g4'
            · rw [if_neg (fun z => q3 (by omega))]
              constructor
              · intro z
                exact absurd (g4'.mp z).1 q3
              · intro z
                exact absurd z.1 q3
          · rw [up_n q, if_neg (fun z => q (by omega))]
            exact g4'
        · intro l' a' b' hl hb
          have g5' := g5 l' a' b' hl hb
          dsimp only
          by_cases q : l' * 8 + b' = l * 8 + e / 8
          · have q1 : l' = l := by omega
            have q2 : b' = e / 8 := by omega
            rw [q, up_s]
            rw [q] at g5'
            by_cases q3 : a' < 8
            · rw [sb_bit _ _ _ _ q3]
              by_cases q4 : a' = e % 8
              · rw [if_pos ⟨q1, q4, q2⟩, if_pos q4]
                simp [q3]
              · rw [if_neg (fun z => q4 z.2.1), if_neg q4]
                exact g5'
            · rw [if_neg (fun z => q3 (by omega))]
              constructor
              · intro z
                exact absurd (g5'.mp z).1 q3
              · intro z
                exact absurd z.1 q3
          · rw [up_n q, if_neg (fun z => q (by omega))]
            exact g5'
        · intro l' a' b' hz
          by_cases q : l' = l ∧ a' = e % 8 ∧ b' = e / 8
          · omega
          · rw [if_neg q] at hz
            exact g1 l' a' b' hz
        · intro j hj
          by_cases q : j = l * 64 + e
          · rw [q, up_s]
            omega
          · rw [up_n q]
            exact m2 j hj
        · intro l' a' b' hl ha hb
          dsimp only
          by_cases q : l' = l ∧ a' = e % 8 ∧ b' = e / 8
          · rw [if_pos q, show l' * 64 + a' + 8 * b' = l * 64 + e by omega, up_s]
            omega
          · rw [if_neg q, up_n (by omega)]
            exact m3 l' a' b' hl ha hb
end
section
/-! the constructors -/
theorem va_same {D : va_G} {cl : List vw_C} {tys : List (ClassId × FieldType)} {U : State} (h : va_K D cl tys U) (i j : Nat) {c1 c2 : ClassId} (h1 : tys[i]? = some (c1, .int)) (h2 : tys[j]? = some (c2, .int)) : c1 = c2 := by
  have a1 : U.vm.findClass ("[" ++ FieldType.int.toString) = some c1 := (h.2 i _ h1).2
  have a2 : U.vm.findClass ("[" ++ FieldType.int.toString) = some c2 := (h.2 j _ h2).2
  exact Option.some.inj (a1.symm.trans a2)
def rr10 (a0 a1 a2 a3 a4 a5 a6 a7 a8 a9 : Nat) : Nat → Nat := fun k => match k with
  | 0 => a0
  | 1 => a1
  | 2 => a2
  | 3 => a3
  | 4 => a4
  | 5 => a5
  | 6 => a6
  | 7 => a7
  | 8 => a8
  | _ => a9
def rr4 (a0 a1 a2 a3 : Nat) : Nat → Nat := fun k => match k with
  | 0 => a0
  | 1 => a1
  | 2 => a2
  | _ => a3
theorem zz_11 : nI 1 - 1 = 0 := by decide
set_option maxHeartbeats 4000000 in
set_option maxRecDepth 100000 in
theorem X_init (l : Launch) (D : va_G) (h sz : Nat) : Met l yX0_init (ws_ yX0_init cX0_init 1 none) ({ frames := 1, cells := 10, slots := 900, locals := 12 } : Room) (va_Pc [.ref h] (fun U => U.heap.size = sz ∧ va_P D vwCl [(h, .inr (0, [.null, .null, .int 0, .int 0, .int 0, .null, .null, .null, .int 0, .null, .null, .null, .int 0, .int 0, .null, .null]))] U.heap ∧ va_K D vwCl [] U ∧ va_D (fun _ => True) [(h, .inr (0, [.null, .null, .int 0, .int 0, .int 0, .null, .null, .null, .int 0, .null, .null, .null, .int 0, .int 0, .null, .null]))])) (va_Qv (fun _ : ClassId × (Nat → Nat) => True) (fun u t => va_P D vwCl (xw u.1 h u.2 0 0 0 0 0 0 (fun _ => 0) (fun _ => 0) (fun _ => 0) (fun _ => 0) (fun _ => 0) (fun _ => 0) (fun _ => 0) (fun _ => 1) (fun _ => 0) (fun _ => 0)) t.heap ∧ va_K D vwCl ([(u.1, .int)]) t ∧ va_D (va_A [(h, .inr (0, [.null, .null, .int 0, .int 0, .int 0, .null, .null, .null, .int 0, .null, .null, .null, .int 0, .int 0, .null, .null]))] sz) (xw u.1 h u.2 0 0 0 0 0 0 (fun _ => 0) (fun _ => 0) (fun _ => 0) (fun _ => 0) (fun _ => 0) (fun _ => 0) (fun _ => 0) (fun _ => 1) (fun _ => 0) (fun _ => 0))) (va_A [(h, .inr (0, [.null, .null, .int 0, .int 0, .int 0, .null, .null, .null, .int 0, .null, .null, .null, .int 0, .int 0, .null, .null]))] sz)) 10 900 (va_A [(h, .inr (0, [.null, .null, .int 0, .int 0, .int 0, .null, .null, .null, .int 0, .null, .null, .null, .int 0, .int 0, .null, .null]))] sz) := by
  refine Met.ofW (cc := cX0_init) (maxL := 1) (ret := none) (by decide) rfl ?_
  intro p e s m args below meth c s₁ B hml hv
  obtain ⟨rfl, hsz, hP, hK, hD0⟩ := hv
  have hx := B.exec
  have hb := B.bytes
  have hr := B.returns
  have hts := atoms_spec (ws := ws_ yX0_init cX0_init 1 none) B.pre
  have hts : ∀ w ∈ lw_all, w.before _ s = true := fun w h => hts w (List.mem_cons_of_mem _ h)
  have hown : s.vm.findClass RX0 = some m.cls := findClass_of_methodNamed B.named
  have hlocks := B.notSynchronized
  have hin : meth.name = "<init>" := (name_of_methodNamed B.named B.method).1
  subst hsz
  have hD := hD0.self (sz := s.heap.size)
  generalize hAe : va_A [(h, .inr (0, [.null, .null, .int 0, .int 0, .int 0, .null, .null, .null, .int 0, .null, .null, .null, .int 0, .int 0, .null, .null]))] s.heap.size = A at hD ⊢
  have hA : ∀ q : Nat, s.heap.size ≤ q → A q := fun q h => by rw [← hAe]; exact Or.inr h
  have hS : va_S A s.heap s.heap [] := va_S.rf
  have hl := lv_entry ([.ref h]) (n := 1) (Nat.le_of_ble_eq_true rfl)
  rw [lg_entry_eq]
  generalize (lg_sl ([.ref h]) ++ List.replicate (1 - (lg_sl ([.ref h])).length) Slot.unset).toArray = ls at hl ⊢
  have hl : lv_has ls 1 [(0, .ref h)] := hl
  refine lv_aload_n hx hb dX0_init_0 rfl (lv_at hl 0 rfl) ?_
  refine W.objInit hx hb hown (hts _ q27) (hts _ q28) (hts _ q29) rfl (by rw [hml]; exact hl.1) rfl dX0_init_1 (Nat.le_of_ble_eq_true rfl) (Nat.le_of_ble_eq_true rfl) ?_
  refine W.eq (g2 := F0 m 4 ls []) rfl ?_
  refine lv_aload_n hx hb dX0_init_4 rfl (lv_at hl 0 rfl) ?_
  refine lv_bipush (v := nI 24) hx hb dX0_init_5 (by decide) ?_
  refine va_newa (atype := .int) (ty := .int) (n := nI 24) (N' := 24) (a0 := (24, .inl (fun _ => nI 0))) hx hb (hts _ q79) rfl hK hP hD hS hA (fun cA => rfl) (by decide) (by decide) (by decide) (Nat.le_of_ble_eq_true rfl) (Nat.le_of_ble_eq_true rfl) dX0_init_7 (fun q0 c0 H hK hP hD hS => ?_)
  have hK : va_K D vwCl [(c0, .int)] s := hK
  have hP : va_P D vwCl [(h, .inr (0, [.null, .null, .int 0, .int 0, .int 0, .null, .null, .null, .int 0, .null, .null, .null, .int 0, .int 0, .null, .null])), (q0, .inl (c0, 24, .inl (fun _ => nI 0)))] H := hP
  have hD : va_D A [(h, .inr (0, [.null, .null, .int 0, .int 0, .int 0, .null, .null, .null, .int 0, .null, .null, .null, .int 0, .int 0, .null, .null])), (q0, .inl (c0, 24, .inl (fun _ => nI 0)))] := hD
  refine va_putF (D := D) (ci := 0) (v := .ref q0) (ty := .array .int) (C := RX0) (T := TX0) (N := 16) hx hb hts in_X0 tyX0 tyX0_ok nmX0 hown hK hP hD hS 0 rfl rfl 0 (by decide) (hts _ q30) (fun _ h9 => h9) rfl hin rfl (by decide +kernel) rfl rfl (Nat.le_of_ble_eq_true rfl) dX0_init_9 (fun H locs hP hD hS => ?_)
  have hP : va_P D vwCl [(h, .inr (0, [.ref q0, .null, .int 0, .int 0, .int 0, .null, .null, .null, .int 0, .null, .null, .null, .int 0, .int 0, .null, .null])), (q0, .inl (c0, 24, .inl (fun _ => nI 0)))] H := hP
  have hD : va_D A [(h, .inr (0, [.ref q0, .null, .int 0, .int 0, .int 0, .null, .null, .null, .int 0, .null, .null, .null, .int 0, .int 0, .null, .null])), (q0, .inl (c0, 24, .inl (fun _ => nI 0)))] := hD
  refine lv_aload_n hx hb dX0_init_12 rfl (lv_at hl 0 rfl) ?_
  refine lv_bipush (v := nI 24) hx hb dX0_init_13 (by decide) ?_
  refine va_newa (atype := .int) (ty := .int) (n := nI 24) (N' := 24) (a0 := (24, .inl (fun _ => nI 0))) hx hb (hts _ q79) rfl hK hP hD hS hA (fun cA => rfl) (by decide) (by decide) (by decide) (Nat.le_of_ble_eq_true rfl) (Nat.le_of_ble_eq_true rfl) dX0_init_15 (fun q1 c1 H hK hP hD hS => ?_)
  have hK : va_K D vwCl [(c0, .int), (c1, .int)] s := hK
  obtain rfl : c0 = c1 := va_same hK 0 1 rfl rfl
  have hK : va_K D vwCl [(c0, .int), (c0, .int)] s := hK
  have hP : va_P D vwCl [(h, .inr (0, [.ref q0, .null, .int 0, .int 0, .int 0, .null, .null, .null, .int 0, .null, .null, .null, .int 0, .int 0, .null, .null])), (q0, .inl (c0, 24, .inl (fun _ => nI 0))), (q1, .inl (c0, 24, .inl (fun _ => nI 0)))] H := hP
  have hD : va_D A [(h, .inr (0, [.ref q0, .null, .int 0, .int 0, .int 0, .null, .null, .null, .int 0, .null, .null, .null, .int 0, .int 0, .null, .null])), (q0, .inl (c0, 24, .inl (fun _ => nI 0))), (q1, .inl (c0, 24, .inl (fun _ => nI 0)))] := hD
  refine va_putF (D := D) (ci := 0) (v := .ref q1) (ty := .array .int) (C := RX0) (T := TX0) (N := 16) hx hb hts in_X0 tyX0 tyX0_ok nmX0 hown hK hP hD hS 0 rfl rfl 1 (by decide) (hts _ q31) (fun _ h9 => h9) rfl hin rfl (by decide +kernel) rfl rfl (Nat.le_of_ble_eq_true rfl) dX0_init_17 (fun H locs hP hD hS => ?_)
  have hP : va_P D vwCl [(h, .inr (0, [.ref q0, .ref q1, .int 0, .int 0, .int 0, .null, .null, .null, .int 0, .null, .null, .null, .int 0, .int 0, .null, .null])), (q0, .inl (c0, 24, .inl (fun _ => nI 0))), (q1, .inl (c0, 24, .inl (fun _ => nI 0)))] H := hP
  have hD : va_D A [(h, .inr (0, [.ref q0, .ref q1, .int 0, .int 0, .int 0, .null, .null, .null, .int 0, .null, .null, .null, .int 0, .int 0, .null, .null])), (q0, .inl (c0, 24, .inl (fun _ => nI 0))), (q1, .inl (c0, 24, .inl (fun _ => nI 0)))] := hD
  refine lv_aload_n hx hb dX0_init_20 rfl (lv_at hl 0 rfl) ?_
  refine lv_bipush (v := nI 56) hx hb dX0_init_21 (by decide) ?_
  refine va_newa (atype := .int) (ty := .int) (n := nI 56) (N' := 56) (a0 := (56, .inl (fun _ => nI 0))) hx hb (hts _ q79) rfl hK hP hD hS hA (fun cA => rfl) (by decide) (by decide) (by decide) (Nat.le_of_ble_eq_true rfl) (Nat.le_of_ble_eq_true rfl) dX0_init_23 (fun q2 c2 H hK hP hD hS => ?_)
  have hK : va_K D vwCl [(c0, .int), (c0, .int), (c2, .int)] s := hK
  obtain rfl : c0 = c2 := va_same hK 0 2 rfl rfl
  have hK : va_K D vwCl [(c0, .int), (c0, .int), (c0, .int)] s := hK
  have hP : va_P D vwCl [(h, .inr (0, [.ref q0, .ref q1, .int 0, .int 0, .int 0, .null, .null, .null, .int 0, .null, .null, .null, .int 0, .int 0, .null, .null])), (q0, .inl (c0, 24, .inl (fun _ => nI 0))), (q1, .inl (c0, 24, .inl (fun _ => nI 0))), (q2, .inl (c0, 56, .inl (fun _ => nI 0)))] H := hP
  have hD : va_D A [(h, .inr (0, [.ref q0, .ref q1, .int 0, .int 0, .int 0, .null, .null, .null, .int 0, .null, .null, .null, .int 0, .int 0, .null, .null])), (q0, .inl (c0, 24, .inl (fun _ => nI 0))), (q1, .inl (c0, 24, .inl (fun _ => nI 0))), (q2, .inl (c0, 56, .inl (fun _ => nI 0)))] := hD
  refine va_putF (D := D) (ci := 0) (v := .ref q2) (ty := .array .int) (C := RX0) (T := TX0) (N := 16) hx hb hts in_X0 tyX0 tyX0_ok nmX0 hown hK hP hD hS 0 rfl rfl 5 (by decide) (hts _ q35) (fun _ h9 => h9) rfl hin rfl (by decide +kernel) rfl rfl (Nat.le_of_ble_eq_true rfl) dX0_init_25 (fun H locs hP hD hS => ?_)
  have hP : va_P D vwCl [(h, .inr (0, [.ref q0, .ref q1, .int 0, .int 0, .int 0, .ref q2, .null, .null, .int 0, .null, .null, .null, .int 0, .int 0, .null, .null])), (q0, .inl (c0, 24, .inl (fun _ => nI 0))), (q1, .inl (c0, 24, .inl (fun _ => nI 0))), (q2, .inl (c0, 56, .inl (fun _ => nI 0)))] H := hP
  have hD : va_D A [(h, .inr (0, [.ref q0, .ref q1, .int 0, .int 0, .int 0, .ref q2, .null, .null, .int 0, .null, .null, .null, .int 0, .int 0, .null, .null])), (q0, .inl (c0, 24, .inl (fun _ => nI 0))), (q1, .inl (c0, 24, .inl (fun _ => nI 0))), (q2, .inl (c0, 56, .inl (fun _ => nI 0)))] := hD
  refine lv_aload_n hx hb dX0_init_28 rfl (lv_at hl 0 rfl) ?_
  refine lv_bipush (v := nI 56) hx hb dX0_init_29 (by decide) ?_
  refine va_newa (atype := .int) (ty := .int) (n := nI 56) (N' := 56) (a0 := (56, .inl (fun _ => nI 0))) hx hb (hts _ q79) rfl hK hP hD hS hA (fun cA => rfl) (by decide) (by decide) (by decide) (Nat.le_of_ble_eq_true rfl) (Nat.le_of_ble_eq_true rfl) dX0_init_31 (fun q3 c3 H hK hP hD hS => ?_)
  have hK : va_K D vwCl [(c0, .int), (c0, .int), (c0, .int), (c3, .int)] s := hK
  obtain rfl : c0 = c3 := va_same hK 0 3 rfl rfl
  have hK : va_K D vwCl [(c0, .int), (c0, .int), (c0, .int), (c0, .int)] s := hK
  have hP : va_P D vwCl [(h, .inr (0, [.ref q0, .ref q1, .int 0, .int 0, .int 0, .ref q2, .null, .null, .int 0, .null, .null, .null, .int 0, .int 0, .null, .null])), (q0, .inl (c0, 24, .inl (fun _ => nI 0))), (q1, .inl (c0, 24, .inl (fun _ => nI 0))), (q2, .inl (c0, 56, .inl (fun _ => nI 0))), (q3, .inl (c0, 56, .inl (fun _ => nI 0)))] H := hP
  have hD : va_D A [(h, .inr (0, [.ref q0, .ref q1, .int 0, .int 0, .int 0, .ref q2, .null, .null, .int 0, .null, .null, .null, .int 0, .int 0, .null, .null])), (q0, .inl (c0, 24, .inl (fun _ => nI 0))), (q1, .inl (c0, 24, .inl (fun _ => nI 0))), (q2, .inl (c0, 56, .inl (fun _ => nI 0))), (q3, .inl (c0, 56, .inl (fun _ => nI 0)))] := hD
  refine va_putF (D := D) (ci := 0) (v := .ref q3) (ty := .array .int) (C := RX0) (T := TX0) (N := 16) hx hb hts in_X0 tyX0 tyX0_ok nmX0 hown hK hP hD hS 0 rfl rfl 6 (by decide) (hts _ q36) (fun _ h9 => h9) rfl hin rfl (by decide +kernel) rfl rfl (Nat.le_of_ble_eq_true rfl) dX0_init_33 (fun H locs hP hD hS => ?_)
  have hP : va_P D vwCl [(h, .inr (0, [.ref q0, .ref q1, .int 0, .int 0, .int 0, .ref q2, .ref q3, .null, .int 0, .null, .null, .null, .int 0, .int 0, .null, .null])), (q0, .inl (c0, 24, .inl (fun _ => nI 0))), (q1, .inl (c0, 24, .inl (fun _ => nI 0))), (q2, .inl (c0, 56, .inl (fun _ => nI 0))), (q3, .inl (c0, 56, .inl (fun _ => nI 0)))] H := hP
  have hD : va_D A [(h, .inr (0, [.ref q0, .ref q1, .int 0, .int 0, .int 0, .ref q2, .ref q3, .null, .int 0, .null, .null, .null, .int 0, .int 0, .null, .null])), (q0, .inl (c0, 24, .inl (fun _ => nI 0))), (q1, .inl (c0, 24, .inl (fun _ => nI 0))), (q2, .inl (c0, 56, .inl (fun _ => nI 0))), (q3, .inl (c0, 56, .inl (fun _ => nI 0)))] := hD
  refine lv_aload_n hx hb dX0_init_36 rfl (lv_at hl 0 rfl) ?_
  refine lv_bipush (v := nI 56) hx hb dX0_init_37 (by decide) ?_
  refine va_newa (atype := .int) (ty := .int) (n := nI 56) (N' := 56) (a0 := (56, .inl (fun _ => nI 0))) hx hb (hts _ q79) rfl hK hP hD hS hA (fun cA => rfl) (by decide) (by decide) (by decide) (Nat.le_of_ble_eq_true rfl) (Nat.le_of_ble_eq_true rfl) dX0_init_39 (fun q4 c4 H hK hP hD hS => ?_)
  have hK : va_K D vwCl [(c0, .int), (c0, .int), (c0, .int), (c0, .int), (c4, .int)] s := hK
  obtain rfl : c0 = c4 := va_same hK 0 4 rfl rfl
  have hK : va_K D vwCl [(c0, .int), (c0, .int), (c0, .int), (c0, .int), (c0, .int)] s := hK
  have hP : va_P D vwCl [(h, .inr (0, [.ref q0, .ref q1, .int 0, .int 0, .int 0, .ref q2, .ref q3, .null, .int 0, .null, .null, .null, .int 0, .int 0, .null, .null])), (q0, .inl (c0, 24, .inl (fun _ => nI 0))), (q1, .inl (c0, 24, .inl (fun _ => nI 0))), (q2, .inl (c0, 56, .inl (fun _ => nI 0))), (q3, .inl (c0, 56, .inl (fun _ => nI 0))), (q4, .inl (c0, 56, .inl (fun _ => nI 0)))] H := hP
  have hD : va_D A [(h, .inr (0, [.ref q0, .ref q1, .int 0, .int 0, .int 0, .ref q2, .ref q3, .null, .int 0, .null, .null, .null, .int 0, .int 0, .null, .null])), (q0, .inl (c0, 24, .inl (fun _ => nI 0))), (q1, .inl (c0, 24, .inl (fun _ => nI 0))), (q2, .inl (c0, 56, .inl (fun _ => nI 0))), (q3, .inl (c0, 56, .inl (fun _ => nI 0))), (q4, .inl (c0, 56, .inl (fun _ => nI 0)))] := hD
  refine va_putF (D := D) (ci := 0) (v := .ref q4) (ty := .array .int) (C := RX0) (T := TX0) (N := 16) hx hb hts in_X0 tyX0 tyX0_ok nmX0 hown hK hP hD hS 0 rfl rfl 7 (by decide) (hts _ q37) (fun _ h9 => h9) rfl hin rfl (by decide +kernel) rfl rfl (Nat.le_of_ble_eq_true rfl) dX0_init_41 (fun H locs hP hD hS => ?_)
  have hP : va_P D vwCl [(h, .inr (0, [.ref q0, .ref q1, .int 0, .int 0, .int 0, .ref q2, .ref q3, .ref q4, .int 0, .null, .null, .null, .int 0, .int 0, .null, .null])), (q0, .inl (c0, 24, .inl (fun _ => nI 0))), (q1, .inl (c0, 24, .inl (fun _ => nI 0))), (q2, .inl (c0, 56, .inl (fun _ => nI 0))), (q3, .inl (c0, 56, .inl (fun _ => nI 0))), (q4, .inl (c0, 56, .inl (fun _ => nI 0)))] H := hP
  have hD : va_D A [(h, .inr (0, [.ref q0, .ref q1, .int 0, .int 0, .int 0, .ref q2, .ref q3, .ref q4, .int 0, .null, .null, .null, .int 0, .int 0, .null, .null])), (q0, .inl (c0, 24, .inl (fun _ => nI 0))), (q1, .inl (c0, 24, .inl (fun _ => nI 0))), (q2, .inl (c0, 56, .inl (fun _ => nI 0))), (q3, .inl (c0, 56, .inl (fun _ => nI 0))), (q4, .inl (c0, 56, .inl (fun _ => nI 0)))] := hD
  refine lv_aload_n hx hb dX0_init_44 rfl (lv_at hl 0 rfl) ?_
  refine lv_bipush (v := nI 6) hx hb dX0_init_45 (by decide) ?_
  refine va_newa (atype := .int) (ty := .int) (n := nI 6) (N' := 6) (a0 := (6, .inl (fun _ => nI 0))) hx hb (hts _ q79) rfl hK hP hD hS hA (fun cA => rfl) (by decide) (by decide) (by decide) (Nat.le_of_ble_eq_true rfl) (Nat.le_of_ble_eq_true rfl) dX0_init_47 (fun q5 c5 H hK hP hD hS => ?_)
  have hK : va_K D vwCl [(c0, .int), (c0, .int), (c0, .int), (c0, .int), (c0, .int), (c5, .int)] s := hK
  obtain rfl : c0 = c5 := va_same hK 0 5 rfl rfl
  have hK : va_K D vwCl [(c0, .int), (c0, .int), (c0, .int), (c0, .int), (c0, .int), (c0, .int)] s := hK
  have hP : va_P D vwCl [(h, .inr (0, [.ref q0, .ref q1, .int 0, .int 0, .int 0, .ref q2, .ref q3, .ref q4, .int 0, .null, .null, .null, .int 0, .int 0, .null, .null])), (q0, .inl (c0, 24, .inl (fun _ => nI 0))), (q1, .inl (c0, 24, .inl (fun _ => nI 0))), (q2, .inl (c0, 56, .inl (fun _ => nI 0))), (q3, .inl (c0, 56, .inl (fun _ => nI 0))), (q4, .inl (c0, 56, .inl (fun _ => nI 0))), (q5, .inl (c0, 6, .inl (fun _ => nI 0)))] H := hP
  have hD : va_D A [(h, .inr (0, [.ref q0, .ref q1, .int 0, .int 0, .int 0, .ref q2, .ref q3, .ref q4, .int 0, .null, .null, .null, .int 0, .int 0, .null, .null])), (q0, .inl (c0, 24, .inl (fun _ => nI 0))), (q1, .inl (c0, 24, .inl (fun _ => nI 0))), (q2, .inl (c0, 56, .inl (fun _ => nI 0))), (q3, .inl (c0, 56, .inl (fun _ => nI 0))), (q4, .inl (c0, 56, .inl (fun _ => nI 0))), (q5, .inl (c0, 6, .inl (fun _ => nI 0)))] := hD
  refine va_putF (D := D) (ci := 0) (v := .ref q5) (ty := .array .int) (C := RX0) (T := TX0) (N := 16) hx hb hts in_X0 tyX0 tyX0_ok nmX0 hown hK hP hD hS 0 rfl rfl 9 (by decide) (hts _ q39) (fun _ h9 => h9) rfl hin rfl (by decide +kernel) rfl rfl (Nat.le_of_ble_eq_true rfl) dX0_init_49 (fun H locs hP hD hS => ?_)
  have hP : va_P D vwCl [(h, .inr (0, [.ref q0, .ref q1, .int 0, .int 0, .int 0, .ref q2, .ref q3, .ref q4, .int 0, .ref q5, .null, .null, .int 0, .int 0, .null, .null])), (q0, .inl (c0, 24, .inl (fun _ => nI 0))), (q1, .inl (c0, 24, .inl (fun _ => nI 0))), (q2, .inl (c0, 56, .inl (fun _ => nI 0))), (q3, .inl (c0, 56, .inl (fun _ => nI 0))), (q4, .inl (c0, 56, .inl (fun _ => nI 0))), (q5, .inl (c0, 6, .inl (fun _ => nI 0)))] H := hP
  have hD : va_D A [(h, .inr (0, [.ref q0, .ref q1, .int 0, .int 0, .int 0, .ref q2, .ref q3, .ref q4, .int 0, .ref q5, .null, .null, .int 0, .int 0, .null, .null])), (q0, .inl (c0, 24, .inl (fun _ => nI 0))), (q1, .inl (c0, 24, .inl (fun _ => nI 0))), (q2, .inl (c0, 56, .inl (fun _ => nI 0))), (q3, .inl (c0, 56, .inl (fun _ => nI 0))), (q4, .inl (c0, 56, .inl (fun _ => nI 0))), (q5, .inl (c0, 6, .inl (fun _ => nI 0)))] := hD
  refine lv_aload_n hx hb dX0_init_52 rfl (lv_at hl 0 rfl) ?_
  refine lv_bipush (v := nI 6) hx hb dX0_init_53 (by decide) ?_
  refine va_newa (atype := .int) (ty := .int) (n := nI 6) (N' := 6) (a0 := (6, .inl (fun _ => nI 0))) hx hb (hts _ q79) rfl hK hP hD hS hA (fun cA => rfl) (by decide) (by decide) (by decide) (Nat.le_of_ble_eq_true rfl) (Nat.le_of_ble_eq_true rfl) dX0_init_55 (fun q6 c6 H hK hP hD hS => ?_)
  have hK : va_K D vwCl [(c0, .int), (c0, .int), (c0, .int), (c0, .int), (c0, .int), (c0, .int), (c6, .int)] s := hK
  obtain rfl : c0 = c6 := va_same hK 0 6 rfl rfl
  have hK : va_K D vwCl [(c0, .int), (c0, .int), (c0, .int), (c0, .int), (c0, .int), (c0, .int), (c0, .int)] s := hK
  have hP : va_P D vwCl [(h, .inr (0, [.ref q0, .ref q1, .int 0, .int 0, .int 0, .ref q2, .ref q3, .ref q4, .int 0, .ref q5, .null, .null, .int 0, .int 0, .null, .null])), (q0, .inl (c0, 24, .inl (fun _ => nI 0))), (q1, .inl (c0, 24, .inl (fun _ => nI 0))), (q2, .inl (c0, 56, .inl (fun _ => nI 0))), (q3, .inl (c0, 56, .inl (fun _ => nI 0))), (q4, .inl (c0, 56, .inl (fun _ => nI 0))), (q5, .inl (c0, 6, .inl (fun _ => nI 0))), (q6, .inl (c0, 6, .inl (fun _ => nI 0)))] H := hP
  have hD : va_D A [(h, .inr (0, [.ref q0, .ref q1, .int 0, .int 0, .int 0, .ref q2, .ref q3, .ref q4, .int 0, .ref q5, .null, .null, .int 0, .int 0, .null, .null])), (q0, .inl (c0, 24, .inl (fun _ => nI 0))), (q1, .inl (c0, 24, .inl (fun _ => nI 0))), (q2, .inl (c0, 56, .inl (fun _ => nI 0))), (q3, .inl (c0, 56, .inl (fun _ => nI 0))), (q4, .inl (c0, 56, .inl (fun _ => nI 0))), (q5, .inl (c0, 6, .inl (fun _ => nI 0))), (q6, .inl (c0, 6, .inl (fun _ => nI 0)))] := hD
  refine va_putF (D := D) (ci := 0) (v := .ref q6) (ty := .array .int) (C := RX0) (T := TX0) (N := 16) hx hb hts in_X0 tyX0 tyX0_ok nmX0 hown hK hP hD hS 0 rfl rfl 10 (by decide) (hts _ q40) (fun _ h9 => h9) rfl hin rfl (by decide +kernel) rfl rfl (Nat.le_of_ble_eq_true rfl) dX0_init_57 (fun H locs hP hD hS => ?_)
  have hP : va_P D vwCl [(h, .inr (0, [.ref q0, .ref q1, .int 0, .int 0, .int 0, .ref q2, .ref q3, .ref q4, .int 0, .ref q5, .ref q6, .null, .int 0, .int 0, .null, .null])), (q0, .inl (c0, 24, .inl (fun _ => nI 0))), (q1, .inl (c0, 24, .inl (fun _ => nI 0))), (q2, .inl (c0, 56, .inl (fun _ => nI 0))), (q3, .inl (c0, 56, .inl (fun _ => nI 0))), (q4, .inl (c0, 56, .inl (fun _ => nI 0))), (q5, .inl (c0, 6, .inl (fun _ => nI 0))), (q6, .inl (c0, 6, .inl (fun _ => nI 0)))] H := hP
  have hD : va_D A [(h, .inr (0, [.ref q0, .ref q1, .int 0, .int 0, .int 0, .ref q2, .ref q3, .ref q4, .int 0, .ref q5, .ref q6, .null, .int 0, .int 0, .null, .null])), (q0, .inl (c0, 24, .inl (fun _ => nI 0))), (q1, .inl (c0, 24, .inl (fun _ => nI 0))), (q2, .inl (c0, 56, .inl (fun _ => nI 0))), (q3, .inl (c0, 56, .inl (fun _ => nI 0))), (q4, .inl (c0, 56, .inl (fun _ => nI 0))), (q5, .inl (c0, 6, .inl (fun _ => nI 0))), (q6, .inl (c0, 6, .inl (fun _ => nI 0)))] := hD
  refine lv_aload_n hx hb dX0_init_60 rfl (lv_at hl 0 rfl) ?_
  refine lv_sipush (v := nI 224) hx hb dX0_init_61 (by decide) ?_
  refine va_newa (atype := .int) (ty := .int) (n := nI 224) (N' := 224) (a0 := (224, .inl (fun _ => nI 1 - 1))) hx hb (hts _ q79) rfl hK hP hD hS hA (fun cA => by show arrV cA 224 (fun _ => .int (nI 1 - 1)) = arrV cA 224 (fun _ => .int 0); rw [zz_11]) (by decide) (by decide) (by decide) (Nat.le_of_ble_eq_true rfl) (Nat.le_of_ble_eq_true rfl) dX0_init_64 (fun q7 c7 H hK hP hD hS => ?_)
  have hK : va_K D vwCl [(c0, .int), (c0, .int), (c0, .int), (c0, .int), (c0, .int), (c0, .int), (c0, .int), (c7, .int)] s := hK
  obtain rfl : c0 = c7 := va_same hK 0 7 rfl rfl
  have hK : va_K D vwCl [(c0, .int), (c0, .int), (c0, .int), (c0, .int), (c0, .int), (c0, .int), (c0, .int), (c0, .int)] s := hK
  have hP : va_P D vwCl [(h, .inr (0, [.ref q0, .ref q1, .int 0, .int 0, .int 0, .ref q2, .ref q3, .ref q4, .int 0, .ref q5, .ref q6, .null, .int 0, .int 0, .null, .null])), (q0, .inl (c0, 24, .inl (fun _ => nI 0))), (q1, .inl (c0, 24, .inl (fun _ => nI 0))), (q2, .inl (c0, 56, .inl (fun _ => nI 0))), (q3, .inl (c0, 56, .inl (fun _ => nI 0))), (q4, .inl (c0, 56, .inl (fun _ => nI 0))), (q5, .inl (c0, 6, .inl (fun _ => nI 0))), (q6, .inl (c0, 6, .inl (fun _ => nI 0))), (q7, .inl (c0, 224, .inl (fun _ => nI 1 - 1)))] H := hP
  have hD : va_D A [(h, .inr (0, [.ref q0, .ref q1, .int 0, .int 0, .int 0, .ref q2, .ref q3, .ref q4, .int 0, .ref q5, .ref q6, .null, .int 0, .int 0, .null, .null])), (q0, .inl (c0, 24, .inl (fun _ => nI 0))), (q1, .inl (c0, 24, .inl (fun _ => nI 0))), (q2, .inl (c0, 56, .inl (fun _ => nI 0))), (q3, .inl (c0, 56, .inl (fun _ => nI 0))), (q4, .inl (c0, 56, .inl (fun _ => nI 0))), (q5, .inl (c0, 6, .inl (fun _ => nI 0))), (q6, .inl (c0, 6, .inl (fun _ => nI 0))), (q7, .inl (c0, 224, .inl (fun _ => nI 1 - 1)))] := hD
  refine va_putF (D := D) (ci := 0) (v := .ref q7) (ty := .array .int) (C := RX0) (T := TX0) (N := 16) hx hb hts in_X0 tyX0 tyX0_ok nmX0 hown hK hP hD hS 0 rfl rfl 11 (by decide) (hts _ q41) (fun _ h9 => h9) rfl hin rfl (by decide +kernel) rfl rfl (Nat.le_of_ble_eq_true rfl) dX0_init_66 (fun H locs hP hD hS => ?_)
  have hP : va_P D vwCl [(h, .inr (0, [.ref q0, .ref q1, .int 0, .int 0, .int 0, .ref q2, .ref q3, .ref q4, .int 0, .ref q5, .ref q6, .ref q7, .int 0, .int 0, .null, .null])), (q0, .inl (c0, 24, .inl (fun _ => nI 0))), (q1, .inl (c0, 24, .inl (fun _ => nI 0))), (q2, .inl (c0, 56, .inl (fun _ => nI 0))), (q3, .inl (c0, 56, .inl (fun _ => nI 0))), (q4, .inl (c0, 56, .inl (fun _ => nI 0))), (q5, .inl (c0, 6, .inl (fun _ => nI 0))), (q6, .inl (c0, 6, .inl (fun _ => nI 0))), (q7, .inl (c0, 224, .inl (fun _ => nI 1 - 1)))] H := hP
  have hD : va_D A [(h, .inr (0, [.ref q0, .ref q1, .int 0, .int 0, .int 0, .ref q2, .ref q3, .ref q4, .int 0, .ref q5, .ref q6, .ref q7, .int 0, .int 0, .null, .null])), (q0, .inl (c0, 24, .inl (fun _ => nI 0))), (q1, .inl (c0, 24, .inl (fun _ => nI 0))), (q2, .inl (c0, 56, .inl (fun _ => nI 0))), (q3, .inl (c0, 56, .inl (fun _ => nI 0))), (q4, .inl (c0, 56, .inl (fun _ => nI 0))), (q5, .inl (c0, 6, .inl (fun _ => nI 0))), (q6, .inl (c0, 6, .inl (fun _ => nI 0))), (q7, .inl (c0, 224, .inl (fun _ => nI 1 - 1)))] := hD
  refine lv_aload_n hx hb dX0_init_69 rfl (lv_at hl 0 rfl) ?_
  refine lv_sipush (v := nI 224) hx hb dX0_init_70 (by decide) ?_
  refine va_newa (atype := .int) (ty := .int) (n := nI 224) (N' := 224) (a0 := (224, .inl (fun _ => nI 0))) hx hb (hts _ q79) rfl hK hP hD hS hA (fun cA => rfl) (by decide) (by decide) (by decide) (Nat.le_of_ble_eq_true rfl) (Nat.le_of_ble_eq_true rfl) dX0_init_73 (fun q8 c8 H hK hP hD hS => ?_)
  have hK : va_K D vwCl [(c0, .int), (c0, .int), (c0, .int), (c0, .int), (c0, .int), (c0, .int), (c0, .int), (c0, .int), (c8, .int)] s := hK
  obtain rfl : c0 = c8 := va_same hK 0 8 rfl rfl
  have hK : va_K D vwCl [(c0, .int), (c0, .int), (c0, .int), (c0, .int), (c0, .int), (c0, .int), (c0, .int), (c0, .int), (c0, .int)] s := hK
  have hP : va_P D vwCl [(h, .inr (0, [.ref q0, .ref q1, .int 0, .int 0, .int 0, .ref q2, .ref q3, .ref q4, .int 0, .ref q5, .ref q6, .ref q7, .int 0, .int 0, .null, .null])), (q0, .inl (c0, 24, .inl (fun _ => nI 0))), (q1, .inl (c0, 24, .inl (fun _ => nI 0))), (q2, .inl (c0, 56, .inl (fun _ => nI 0))), (q3, .inl (c0, 56, .inl (fun _ => nI 0))), (q4, .inl (c0, 56, .inl (fun _ => nI 0))), (q5, .inl (c0, 6, .inl (fun _ => nI 0))), (q6, .inl (c0, 6, .inl (fun _ => nI 0))), (q7, .inl (c0, 224, .inl (fun _ => nI 1 - 1))), (q8, .inl (c0, 224, .inl (fun _ => nI 0)))] H := hP
  have hD : va_D A [(h, .inr (0, [.ref q0, .ref q1, .int 0, .int 0, .int 0, .ref q2, .ref q3, .ref q4, .int 0, .ref q5, .ref q6, .ref q7, .int 0, .int 0, .null, .null])), (q0, .inl (c0, 24, .inl (fun _ => nI 0))), (q1, .inl (c0, 24, .inl (fun _ => nI 0))), (q2, .inl (c0, 56, .inl (fun _ => nI 0))), (q3, .inl (c0, 56, .inl (fun _ => nI 0))), (q4, .inl (c0, 56, .inl (fun _ => nI 0))), (q5, .inl (c0, 6, .inl (fun _ => nI 0))), (q6, .inl (c0, 6, .inl (fun _ => nI 0))), (q7, .inl (c0, 224, .inl (fun _ => nI 1 - 1))), (q8, .inl (c0, 224, .inl (fun _ => nI 0)))] := hD
  refine va_putF (D := D) (ci := 0) (v := .ref q8) (ty := .array .int) (C := RX0) (T := TX0) (N := 16) hx hb hts in_X0 tyX0 tyX0_ok nmX0 hown hK hP hD hS 0 rfl rfl 14 (by decide) (hts _ q44) (fun _ h9 => h9) rfl hin rfl (by decide +kernel) rfl rfl (Nat.le_of_ble_eq_true rfl) dX0_init_75 (fun H locs hP hD hS => ?_)
  have hP : va_P D vwCl [(h, .inr (0, [.ref q0, .ref q1, .int 0, .int 0, .int 0, .ref q2, .ref q3, .ref q4, .int 0, .ref q5, .ref q6, .ref q7, .int 0, .int 0, .ref q8, .null])), (q0, .inl (c0, 24, .inl (fun _ => nI 0))), (q1, .inl (c0, 24, .inl (fun _ => nI 0))), (q2, .inl (c0, 56, .inl (fun _ => nI 0))), (q3, .inl (c0, 56, .inl (fun _ => nI 0))), (q4, .inl (c0, 56, .inl (fun _ => nI 0))), (q5, .inl (c0, 6, .inl (fun _ => nI 0))), (q6, .inl (c0, 6, .inl (fun _ => nI 0))), (q7, .inl (c0, 224, .inl (fun _ => nI 1 - 1))), (q8, .inl (c0, 224, .inl (fun _ => nI 0)))] H := hP
  have hD : va_D A [(h, .inr (0, [.ref q0, .ref q1, .int 0, .int 0, .int 0, .ref q2, .ref q3, .ref q4, .int 0, .ref q5, .ref q6, .ref q7, .int 0, .int 0, .ref q8, .null])), (q0, .inl (c0, 24, .inl (fun _ => nI 0))), (q1, .inl (c0, 24, .inl (fun _ => nI 0))), (q2, .inl (c0, 56, .inl (fun _ => nI 0))), (q3, .inl (c0, 56, .inl (fun _ => nI 0))), (q4, .inl (c0, 56, .inl (fun _ => nI 0))), (q5, .inl (c0, 6, .inl (fun _ => nI 0))), (q6, .inl (c0, 6, .inl (fun _ => nI 0))), (q7, .inl (c0, 224, .inl (fun _ => nI 1 - 1))), (q8, .inl (c0, 224, .inl (fun _ => nI 0)))] := hD
  refine lv_aload_n hx hb dX0_init_78 rfl (lv_at hl 0 rfl) ?_
  refine lv_sipush (v := nI 224) hx hb dX0_init_79 (by decide) ?_
  refine va_newa (atype := .int) (ty := .int) (n := nI 224) (N' := 224) (a0 := (224, .inl (fun _ => nI 0))) hx hb (hts _ q79) rfl hK hP hD hS hA (fun cA => rfl) (by decide) (by decide) (by decide) (Nat.le_of_ble_eq_true rfl) (Nat.le_of_ble_eq_true rfl) dX0_init_82 (fun q9 c9 H hK hP hD hS => ?_)
  have hK : va_K D vwCl [(c0, .int), (c0, .int), (c0, .int), (c0, .int), (c0, .int), (c0, .int), (c0, .int), (c0, .int), (c0, .int), (c9, .int)] s := hK
  obtain rfl : c0 = c9 := va_same hK 0 9 rfl rfl
  have hK : va_K D vwCl [(c0, .int), (c0, .int), (c0, .int), (c0, .int), (c0, .int), (c0, .int), (c0, .int), (c0, .int), (c0, .int), (c0, .int)] s := hK
  have hP : va_P D vwCl [(h, .inr (0, [.ref q0, .ref q1, .int 0, .int 0, .int 0, .ref q2, .ref q3, .ref q4, .int 0, .ref q5, .ref q6, .ref q7, .int 0, .int 0, .ref q8, .null])), (q0, .inl (c0, 24, .inl (fun _ => nI 0))), (q1, .inl (c0, 24, .inl (fun _ => nI 0))), (q2, .inl (c0, 56, .inl (fun _ => nI 0))), (q3, .inl (c0, 56, .inl (fun _ => nI 0))), (q4, .inl (c0, 56, .inl (fun _ => nI 0))), (q5, .inl (c0, 6, .inl (fun _ => nI 0))), (q6, .inl (c0, 6, .inl (fun _ => nI 0))), (q7, .inl (c0, 224, .inl (fun _ => nI 1 - 1))), (q8, .inl (c0, 224, .inl (fun _ => nI 0))), (q9, .inl (c0, 224, .inl (fun _ => nI 0)))] H := hP
  have hD : va_D A [(h, .inr (0, [.ref q0, .ref q1, .int 0, .int 0, .int 0, .ref q2, .ref q3, .ref q4, .int 0, .ref q5, .ref q6, .ref q7, .int 0, .int 0, .ref q8, .null])), (q0, .inl (c0, 24, .inl (fun _ => nI 0))), (q1, .inl (c0, 24, .inl (fun _ => nI 0))), (q2, .inl (c0, 56, .inl (fun _ => nI 0))), (q3, .inl (c0, 56, .inl (fun _ => nI 0))), (q4, .inl (c0, 56, .inl (fun _ => nI 0))), (q5, .inl (c0, 6, .inl (fun _ => nI 0))), (q6, .inl (c0, 6, .inl (fun _ => nI 0))), (q7, .inl (c0, 224, .inl (fun _ => nI 1 - 1))), (q8, .inl (c0, 224, .inl (fun _ => nI 0))), (q9, .inl (c0, 224, .inl (fun _ => nI 0)))] := hD
  refine va_putF (D := D) (ci := 0) (v := .ref q9) (ty := .array .int) (C := RX0) (T := TX0) (N := 16) hx hb hts in_X0 tyX0 tyX0_ok nmX0 hown hK hP hD hS 0 rfl rfl 15 (by decide) (hts _ q45) (fun _ h9 => h9) rfl hin rfl (by decide +kernel) rfl rfl (Nat.le_of_ble_eq_true rfl) dX0_init_84 (fun H locs hP hD hS => ?_)
  have hP : va_P D vwCl [(h, .inr (0, [.ref q0, .ref q1, .int 0, .int 0, .int 0, .ref q2, .ref q3, .ref q4, .int 0, .ref q5, .ref q6, .ref q7, .int 0, .int 0, .ref q8, .ref q9])), (q0, .inl (c0, 24, .inl (fun _ => nI 0))), (q1, .inl (c0, 24, .inl (fun _ => nI 0))), (q2, .inl (c0, 56, .inl (fun _ => nI 0))), (q3, .inl (c0, 56, .inl (fun _ => nI 0))), (q4, .inl (c0, 56, .inl (fun _ => nI 0))), (q5, .inl (c0, 6, .inl (fun _ => nI 0))), (q6, .inl (c0, 6, .inl (fun _ => nI 0))), (q7, .inl (c0, 224, .inl (fun _ => nI 1 - 1))), (q8, .inl (c0, 224, .inl (fun _ => nI 0))), (q9, .inl (c0, 224, .inl (fun _ => nI 0)))] H := hP
  have hD : va_D A [(h, .inr (0, [.ref q0, .ref q1, .int 0, .int 0, .int 0, .ref q2, .ref q3, .ref q4, .int 0, .ref q5, .ref q6, .ref q7, .int 0, .int 0, .ref q8, .ref q9])), (q0, .inl (c0, 24, .inl (fun _ => nI 0))), (q1, .inl (c0, 24, .inl (fun _ => nI 0))), (q2, .inl (c0, 56, .inl (fun _ => nI 0))), (q3, .inl (c0, 56, .inl (fun _ => nI 0))), (q4, .inl (c0, 56, .inl (fun _ => nI 0))), (q5, .inl (c0, 6, .inl (fun _ => nI 0))), (q6, .inl (c0, 6, .inl (fun _ => nI 0))), (q7, .inl (c0, 224, .inl (fun _ => nI 1 - 1))), (q8, .inl (c0, 224, .inl (fun _ => nI 0))), (q9, .inl (c0, 224, .inl (fun _ => nI 0)))] := hD
  refine lv_aload_n hx hb dX0_init_87 rfl (lv_at hl 0 rfl) ?_
  refine lv_iconst (v := nI 0) hx hb dX0_init_88 (by decide) ?_
  refine va_put (D := D) (ci := 0) (v := .int (nI 0)) (ty := .int) (C := RX0) (T := TX0) (N := 16) hx hb hts in_X0 tyX0 tyX0_ok nmX0 hown hK hP hD hS 0 rfl rfl 2 (by decide) (hts _ q32) (fun _ h9 => h9) rfl (by decide +kernel) rfl rfl (Nat.le_of_ble_eq_true rfl) dX0_init_89 (fun H locs hP hD hS => ?_)
  have hP : va_P D vwCl [(h, .inr (0, [.ref q0, .ref q1, .int (nI 0), .int 0, .int 0, .ref q2, .ref q3, .ref q4, .int 0, .ref q5, .ref q6, .ref q7, .int 0, .int 0, .ref q8, .ref q9])), (q0, .inl (c0, 24, .inl (fun _ => nI 0))), (q1, .inl (c0, 24, .inl (fun _ => nI 0))), (q2, .inl (c0, 56, .inl (fun _ => nI 0))), (q3, .inl (c0, 56, .inl (fun _ => nI 0))), (q4, .inl (c0, 56, .inl (fun _ => nI 0))), (q5, .inl (c0, 6, .inl (fun _ => nI 0))), (q6, .inl (c0, 6, .inl (fun _ => nI 0))), (q7, .inl (c0, 224, .inl (fun _ => nI 1 - 1))), (q8, .inl (c0, 224, .inl (fun _ => nI 0))), (q9, .inl (c0, 224, .inl (fun _ => nI 0)))] H := hP
  have hD : va_D A [(h, .inr (0, [.ref q0, .ref q1, .int (nI 0), .int 0, .int 0, .ref q2, .ref q3, .ref q4, .int 0, .ref q5, .ref q6, .ref q7, .int 0, .int 0, .ref q8, .ref q9])), (q0, .inl (c0, 24, .inl (fun _ => nI 0))), (q1, .inl (c0, 24, .inl (fun _ => nI 0))), (q2, .inl (c0, 56, .inl (fun _ => nI 0))), (q3, .inl (c0, 56, .inl (fun _ => nI 0))), (q4, .inl (c0, 56, .inl (fun _ => nI 0))), (q5, .inl (c0, 6, .inl (fun _ => nI 0))), (q6, .inl (c0, 6, .inl (fun _ => nI 0))), (q7, .inl (c0, 224, .inl (fun _ => nI 1 - 1))), (q8, .inl (c0, 224, .inl (fun _ => nI 0))), (q9, .inl (c0, 224, .inl (fun _ => nI 0)))] := hD
  obtain ⟨cI, ecI⟩ : ∃ z, z = c0 := ⟨_, rfl⟩
  rw [← ecI] at hP hD hK
  have hP9 : va_P D vwCl (xw cI h (rr10 q0 q1 q2 q3 q4 q5 q6 q7 q8 q9) 0 0 0 0 0 0 (fun _ => 0) (fun _ => 0) (fun _ => 0) (fun _ => 0) (fun _ => 0) (fun _ => 0) (fun _ => 0) (fun _ => 1) (fun _ => 0) (fun _ => 0)) H := hP
  have hD9 : va_D A (xw cI h (rr10 q0 q1 q2 q3 q4 q5 q6 q7 q8 q9) 0 0 0 0 0 0 (fun _ => 0) (fun _ => 0) (fun _ => 0) (fun _ => 0) (fun _ => 0) (fun _ => 0) (fun _ => 0) (fun _ => 1) (fun _ => 0) (fun _ => 0)) := hD
  have hK9 := hK.sub (tys' := [(cI, .int)]) [0] rfl
  refine W.widen (k := 10) (n := 900) (Nat.le_of_ble_eq_true rfl) (Nat.le_of_ble_eq_true rfl) ?_
  exact W.vret hx hb hr (fun t ht hW => ⟨⟨(cI, rr10 q0 q1 q2 q3 q4 q5 q6 q7 q8 q9), rfl, trivial, by rw [ht]; exact hP9, va_K.moved hW.alike hK9, hD9⟩, hS.F ht⟩) hS.2.2 dX0_init_92
set_option maxHeartbeats 4000000 in
set_option maxRecDepth 100000 in
theorem M_init (l : Launch) (D : va_G) (h sz : Nat) : Met l yX1_init (ws_ yX1_init cX1_init 1 none) ({ frames := 1, cells := 4, slots := 668, locals := 12 } : Room) (va_Pc [.ref h] (fun U => U.heap.size = sz ∧ va_P D vwCl [(h, .inr (1, [.null, .int 0, .null, .null, .int 0, .null]))] U.heap ∧ va_K D vwCl [] U ∧ va_D (fun _ => True) [(h, .inr (1, [.null, .int 0, .null, .null, .int 0, .null]))])) (va_Qv (fun _ : ClassId × ClassId × (Nat → Nat) => True) (fun u t => va_P D vwCl (mw u.1 u.2.1 h u.2.2 0 0 (fun _ => 0) (fun _ => 0) (fun _ => 1) (fun _ => 0)) t.heap ∧ va_K D vwCl (tyL u.1 u.2.1) t ∧ va_D (va_A [(h, .inr (1, [.null, .int 0, .null, .null, .int 0, .null]))] sz) (mw u.1 u.2.1 h u.2.2 0 0 (fun _ => 0) (fun _ => 0) (fun _ => 1) (fun _ => 0))) (va_A [(h, .inr (1, [.null, .int 0, .null, .null, .int 0, .null]))] sz)) 4 668 (va_A [(h, .inr (1, [.null, .int 0, .null, .null, .int 0, .null]))] sz) := by
  refine Met.ofW (cc := cX1_init) (maxL := 1) (ret := none) (by decide) rfl ?_
  intro p e s m args below meth c s₁ B hml hv
  obtain ⟨rfl, hsz, hP, hK, hD0⟩ := hv
  have hx := B.exec
  have hb := B.bytes
  have hr := B.returns
  have hts := atoms_spec (ws := ws_ yX1_init cX1_init 1 none) B.pre
  have hts : ∀ w ∈ lw_all, w.before _ s = true := fun w h => hts w (List.mem_cons_of_mem _ h)
  have hown : s.vm.findClass RX1 = some m.cls := findClass_of_methodNamed B.named
  have hlocks := B.notSynchronized
  have hin : meth.name = "<init>" := (name_of_methodNamed B.named B.method).1
  subst hsz
  have hD := hD0.self (sz := s.heap.size)
  generalize hAe : va_A [(h, .inr (1, [.null, .int 0, .null, .null, .int 0, .null]))] s.heap.size = A at hD ⊢
  have hA : ∀ q : Nat, s.heap.size ≤ q → A q := fun q h => by rw [← hAe]; exact Or.inr h
  have hS : va_S A s.heap s.heap [] := va_S.rf
  have hl := lv_entry ([.ref h]) (n := 1) (Nat.le_of_ble_eq_true rfl)
  rw [lg_entry_eq]
  generalize (lg_sl ([.ref h]) ++ List.replicate (1 - (lg_sl ([.ref h])).length) Slot.unset).toArray = ls at hl ⊢
  have hl : lv_has ls 1 [(0, .ref h)] := hl
  refine lv_aload_n hx hb dX1_init_0 rfl (lv_at hl 0 rfl) ?_
  refine W.objInit hx hb hown (hts _ q195) (hts _ q28) (hts _ q29) rfl (by rw [hml]; exact hl.1) rfl dX1_init_1 (Nat.le_of_ble_eq_true rfl) (Nat.le_of_ble_eq_true rfl) ?_
  refine W.eq (g2 := F0 m 4 ls []) rfl ?_
  refine lv_aload_n hx hb dX1_init_4 rfl (lv_at hl 0 rfl) ?_
  refine lv_sipush (v := nI 192) hx hb dX1_init_5 (by decide) ?_
  refine va_newa (atype := .boolean) (ty := .boolean) (n := nI 192) (N' := 192) (a0 := (192, .inl (fun _ => nI 0))) hx hb (hts _ q215) rfl hK hP hD hS hA (fun cA => rfl) (by decide) (by decide) (by decide) (Nat.le_of_ble_eq_true rfl) (Nat.le_of_ble_eq_true rfl) dX1_init_8 (fun q0 c0 H hK hP hD hS => ?_)
  have hK : va_K D vwCl [(c0, .boolean)] s := hK
  have hP : va_P D vwCl [(h, .inr (1, [.null, .int 0, .null, .null, .int 0, .null])), (q0, .inl (c0, 192, .inl (fun _ => nI 0)))] H := hP
  have hD : va_D A [(h, .inr (1, [.null, .int 0, .null, .null, .int 0, .null])), (q0, .inl (c0, 192, .inl (fun _ => nI 0)))] := hD
  refine va_putF (D := D) (ci := 1) (v := .ref q0) (ty := .array .boolean) (C := RX1) (T := TX1) (N := 6) hx hb hts in_X1 tyX1 tyX1_ok nmX1 hown hK hP hD hS 0 rfl rfl 0 (by decide) (hts _ q196) (fun _ h9 => h9) rfl hin rfl (by decide +kernel) rfl rfl (Nat.le_of_ble_eq_true rfl) dX1_init_10 (fun H locs hP hD hS => ?_)
  have hP : va_P D vwCl [(h, .inr (1, [.ref q0, .int 0, .null, .null, .int 0, .null])), (q0, .inl (c0, 192, .inl (fun _ => nI 0)))] H := hP
  have hD : va_D A [(h, .inr (1, [.ref q0, .int 0, .null, .null, .int 0, .null])), (q0, .inl (c0, 192, .inl (fun _ => nI 0)))] := hD
  refine lv_aload_n hx hb dX1_init_13 rfl (lv_at hl 0 rfl) ?_
  refine lv_bipush (v := nI 14) hx hb dX1_init_14 (by decide) ?_
  refine va_newa (atype := .int) (ty := .int) (n := nI 14) (N' := 14) (a0 := (14, .inl (fun _ => nI 0))) hx hb (hts _ q79) rfl hK hP hD hS hA (fun cA => rfl) (by decide) (by decide) (by decide) (Nat.le_of_ble_eq_true rfl) (Nat.le_of_ble_eq_true rfl) dX1_init_16 (fun q1 c1 H hK hP hD hS => ?_)
  have hK : va_K D vwCl [(c0, .boolean), (c1, .int)] s := hK
  have hP : va_P D vwCl [(h, .inr (1, [.ref q0, .int 0, .null, .null, .int 0, .null])), (q0, .inl (c0, 192, .inl (fun _ => nI 0))), (q1, .inl (c1, 14, .inl (fun _ => nI 0)))] H := hP
  have hD : va_D A [(h, .inr (1, [.ref q0, .int 0, .null, .null, .int 0, .null])), (q0, .inl (c0, 192, .inl (fun _ => nI 0))), (q1, .inl (c1, 14, .inl (fun _ => nI 0)))] := hD
  refine va_putF (D := D) (ci := 1) (v := .ref q1) (ty := .array .int) (C := RX1) (T := TX1) (N := 6) hx hb hts in_X1 tyX1 tyX1_ok nmX1 hown hK hP hD hS 0 rfl rfl 2 (by decide) (hts _ q198) (fun _ h9 => h9) rfl hin rfl (by decide +kernel) rfl rfl (Nat.le_of_ble_eq_true rfl) dX1_init_18 (fun H locs hP hD hS => ?_)
  have hP : va_P D vwCl [(h, .inr (1, [.ref q0, .int 0, .ref q1, .null, .int 0, .null])), (q0, .inl (c0, 192, .inl (fun _ => nI 0))), (q1, .inl (c1, 14, .inl (fun _ => nI 0)))] H := hP
  have hD : va_D A [(h, .inr (1, [.ref q0, .int 0, .ref q1, .null, .int 0, .null])), (q0, .inl (c0, 192, .inl (fun _ => nI 0))), (q1, .inl (c1, 14, .inl (fun _ => nI 0)))] := hD
  refine lv_aload_n hx hb dX1_init_21 rfl (lv_at hl 0 rfl) ?_
  refine lv_bipush (v := nI 14) hx hb dX1_init_22 (by decide) ?_
  refine va_newa (atype := .int) (ty := .int) (n := nI 14) (N' := 14) (a0 := (14, .inl (fun _ => nI 1 - 1))) hx hb (hts _ q79) rfl hK hP hD hS hA (fun cA => by show arrV cA 14 (fun _ => .int (nI 1 - 1)) = arrV cA 14 (fun _ => .int 0); rw [zz_11]) (by decide) (by decide) (by decide) (Nat.le_of_ble_eq_true rfl) (Nat.le_of_ble_eq_true rfl) dX1_init_24 (fun q2 c2 H hK hP hD hS => ?_)
  have hK : va_K D vwCl [(c0, .boolean), (c1, .int), (c2, .int)] s := hK
  obtain rfl : c1 = c2 := va_same hK 1 2 rfl rfl
  have hK : va_K D vwCl [(c0, .boolean), (c1, .int), (c1, .int)] s := hK
  have hP : va_P D vwCl [(h, .inr (1, [.ref q0, .int 0, .ref q1, .null, .int 0, .null])), (q0, .inl (c0, 192, .inl (fun _ => nI 0))), (q1, .inl (c1, 14, .inl (fun _ => nI 0))), (q2, .inl (c1, 14, .inl (fun _ => nI 1 - 1)))] H := hP
  have hD : va_D A [(h, .inr (1, [.ref q0, .int 0, .ref q1, .null, .int 0, .null])), (q0, .inl (c0, 192, .inl (fun _ => nI 0))), (q1, .inl (c1, 14, .inl (fun _ => nI 0))), (q2, .inl (c1, 14, .inl (fun _ => nI 1 - 1)))] := hD
  refine va_putF (D := D) (ci := 1) (v := .ref q2) (ty := .array .int) (C := RX1) (T := TX1) (N := 6) hx hb hts in_X1 tyX1 tyX1_ok nmX1 hown hK hP hD hS 0 rfl rfl 3 (by decide) (hts _ q199) (fun _ h9 => h9) rfl hin rfl (by decide +kernel) rfl rfl (Nat.le_of_ble_eq_true rfl) dX1_init_26 (fun H locs hP hD hS => ?_)
  have hP : va_P D vwCl [(h, .inr (1, [.ref q0, .int 0, .ref q1, .ref q2, .int 0, .null])), (q0, .inl (c0, 192, .inl (fun _ => nI 0))), (q1, .inl (c1, 14, .inl (fun _ => nI 0))), (q2, .inl (c1, 14, .inl (fun _ => nI 1 - 1)))] H := hP
  have hD : va_D A [(h, .inr (1, [.ref q0, .int 0, .ref q1, .ref q2, .int 0, .null])), (q0, .inl (c0, 192, .inl (fun _ => nI 0))), (q1, .inl (c1, 14, .inl (fun _ => nI 0))), (q2, .inl (c1, 14, .inl (fun _ => nI 1 - 1)))] := hD
  refine lv_aload_n hx hb dX1_init_29 rfl (lv_at hl 0 rfl) ?_
  refine lv_sipush (v := nI 448) hx hb dX1_init_30 (by decide) ?_
  refine va_newa (atype := .int) (ty := .int) (n := nI 448) (N' := 448) (a0 := (448, .inl (fun _ => nI 0))) hx hb (hts _ q79) rfl hK hP hD hS hA (fun cA => rfl) (by decide) (by decide) (by decide) (Nat.le_of_ble_eq_true rfl) (Nat.le_of_ble_eq_true rfl) dX1_init_33 (fun q3 c3 H hK hP hD hS => ?_)
  have hK : va_K D vwCl [(c0, .boolean), (c1, .int), (c1, .int), (c3, .int)] s := hK
  obtain rfl : c1 = c3 := va_same hK 1 3 rfl rfl
  have hK : va_K D vwCl [(c0, .boolean), (c1, .int), (c1, .int), (c1, .int)] s := hK
  have hP : va_P D vwCl [(h, .inr (1, [.ref q0, .int 0, .ref q1, .ref q2, .int 0, .null])), (q0, .inl (c0, 192, .inl (fun _ => nI 0))), (q1, .inl (c1, 14, .inl (fun _ => nI 0))), (q2, .inl (c1, 14, .inl (fun _ => nI 1 - 1))), (q3, .inl (c1, 448, .inl (fun _ => nI 0)))] H := hP
  have hD : va_D A [(h, .inr (1, [.ref q0, .int 0, .ref q1, .ref q2, .int 0, .null])), (q0, .inl (c0, 192, .inl (fun _ => nI 0))), (q1, .inl (c1, 14, .inl (fun _ => nI 0))), (q2, .inl (c1, 14, .inl (fun _ => nI 1 - 1))), (q3, .inl (c1, 448, .inl (fun _ => nI 0)))] := hD
  refine va_putF (D := D) (ci := 1) (v := .ref q3) (ty := .array .int) (C := RX1) (T := TX1) (N := 6) hx hb hts in_X1 tyX1 tyX1_ok nmX1 hown hK hP hD hS 0 rfl rfl 5 (by decide) (hts _ q201) (fun _ h9 => h9) rfl hin rfl (by decide +kernel) rfl rfl (Nat.le_of_ble_eq_true rfl) dX1_init_35 (fun H locs hP hD hS => ?_)
  have hP : va_P D vwCl [(h, .inr (1, [.ref q0, .int 0, .ref q1, .ref q2, .int 0, .ref q3])), (q0, .inl (c0, 192, .inl (fun _ => nI 0))), (q1, .inl (c1, 14, .inl (fun _ => nI 0))), (q2, .inl (c1, 14, .inl (fun _ => nI 1 - 1))), (q3, .inl (c1, 448, .inl (fun _ => nI 0)))] H := hP
  have hD : va_D A [(h, .inr (1, [.ref q0, .int 0, .ref q1, .ref q2, .int 0, .ref q3])), (q0, .inl (c0, 192, .inl (fun _ => nI 0))), (q1, .inl (c1, 14, .inl (fun _ => nI 0))), (q2, .inl (c1, 14, .inl (fun _ => nI 1 - 1))), (q3, .inl (c1, 448, .inl (fun _ => nI 0)))] := hD
  obtain ⟨cI, ecI⟩ : ∃ z, z = c1 := ⟨_, rfl⟩
  rw [← ecI] at hP hD hK
  obtain ⟨cZ, ecZ⟩ : ∃ z, z = c0 := ⟨_, rfl⟩
  rw [← ecZ] at hP hD hK
  have hP9 : va_P D vwCl (mw cI cZ h (rr4 q0 q1 q2 q3) 0 0 (fun _ => 0) (fun _ => 0) (fun _ => 1) (fun _ => 0)) H := hP
  have hD9 : va_D A (mw cI cZ h (rr4 q0 q1 q2 q3) 0 0 (fun _ => 0) (fun _ => 0) (fun _ => 1) (fun _ => 0)) := hD
  have hK9 := hK.sub (tys' := tyL cI cZ) [1, 0] rfl
  refine W.widen (k := 4) (n := 668) (Nat.le_of_ble_eq_true rfl) (Nat.le_of_ble_eq_true rfl) ?_
  exact W.vret hx hb hr (fun t ht hW => ⟨⟨(cI, cZ, rr4 q0 q1 q2 q3), rfl, trivial, by rw [ht]; exact hP9, va_K.moved hW.alike hK9, hD9⟩, hS.F ht⟩) hS.2.2 dX1_init_38
end
section
/-! THE CLAIM OUT OF ONE WALK OF THE LAW'S BODY. Your part is whole_start (and what it stands on); all else here is the same for every law, but numbers. -/
def R_law : String := "PathAlgebraLaw"
def lw_P (b : Addr) (xs : List Int32) (args : Array Value) (s : State) : Prop := args = #[.ref b] ∧ s.IntsAt b xs ∧ xs.length ≤ 256 ∧ (Jvm.Cond.and given_1 narrow_1).before args s = true
def lw_Q (_ : Array Value) (s : State) (o : Outcome) (t : State) : Prop := o = .returned (some (.int 1)) ∧ Framed s o t [] 600000 7290000
def lw_Z (below : List Frame) (a : Array Value) (s : State) : State → Prop := fun t => ∃ o, t.status = .running ∧ Ended t below o ∧ lw_Q a s o t
/-- the law's own end, with 1 on the stack, nothing written that was there before, its room as the claim has it -/
theorem lw_ret {p : Program} {l : Launch} {e : Env} {s : State} {m : MethodId} {below : List Frame} {meth : Method} {c : Code} {b : Nat} (hx : p.tables.exec = Jvm.exec) (hb : c.code = code) (hr : meth.sig.returnType = ret) (hlocks : meth.locks = false) {pc : Nat} {H : Heap} {ls : Array Slot} (hdg : decode code pc = .ok (.ireturn, 1)) : W p l e room_1 s m #[Value.ref b] below meth c H [] 600000 7290000 (lw_Z below #[Value.ref b] s) (F0 m pc ls [.int 1]) := by
  intro T hT X
  obtain ⟨fs, hret, hrun, hended, hW, hframe⟩ := X.leave (v := some (.int 1)) (hlocks := hlocks) (fun h => by rw [hr] at h; cases h)
  have hmeth' : T.vm.method? m = some meth := X.method'
  refine ⟨T.setFrames fs, ?_, .returned (some (.int 1)), hrun, hended, rfl, ⟨_, rfl⟩, hW, hframe⟩
  jvm_step X.here [X.here.top, hx, hb, hdg, hmeth', hr, ret, narrow_b1]
  (try refine ⟨rfl, ?_⟩); (try refine ⟨rfl, ?_⟩)
  first | (intro acts; rw [hret _ acts rfl rfl rfl]) | rw [hret _ _ rfl rfl rfl]
  exact Steps.refl _
/-- what holds at the law's entry: the machine, the code, the tables' words (any of lw_tbl by 'hts w (by decide +kernel)'), the script of L ints xs at the cell b, what the Statement gives of the start (any of its parts by flat_of_before) -/
def lw_At (p : Program) (s : State) (m : MethodId) (meth : Method) (c : Code) (b L : Nat) (xs : Nat → Int32) : Prop :=
  p.tables.exec = Jvm.exec ∧ c.code = code ∧ meth.sig.returnType = ret ∧ c.maxLocals = 4 ∧ s.vm.findClass R_law = some m.cls ∧ (∀ w ∈ lw_tbl, w.before #[Value.ref b] s = true) ∧ va_X b L xs s s.heap ∧ b < s.heap.size ∧ meth.locks = false ∧ (Jvm.Cond.and given_1 narrow_1).before #[Value.ref b] s = true
end
section
/-! the law: one turn of its loop, case by case -/
abbrev xmP (D : va_G) (cI cZ : ClassId) (h h2 : Nat) (r1 r2 : Nat → Nat) (u : XA) (v : MV) (fw bw ed : Nat → Nat) (hr nx : Nat) (ln lv cm tb : Nat → Nat) : va_W := xwA cI h r1 u hr nx fw bw ln lv cm ++ mwA cI cZ h2 r2 v ed tb
def lwK (p : Program) (l : Launch) (e : Env) (s : State) (m : MethodId) (below : List Frame) (meth : Method) (c : Code) (D : va_G) (cI cZ : ClassId) (b h h2 : Nat) (r1 r2 : Nat → Nat) (i pc : Nat) : Prop :=
  ∀ (u : XA) (v : MV) (fw bw ed : Nat → Nat) (hr nx : Nat) (ln lv cm tb : Nat → Nat) (H : Heap) (locs : List Loc) (ls : Array Slot), INV u fw bw v ed → va_P D vwCl (xmP D cI cZ h h2 r1 r2 u v fw bw ed hr nx ln lv cm tb) H → va_D (fun q => s.heap.size ≤ q) (xmP D cI cZ h h2 r1 r2 u v fw bw ed hr nx ln lv cm tb) → va_S (fun q => s.heap.size ≤ q) s.heap H locs → lv_has ls 4 [(0, .ref b), (1, .ref h), (2, .ref h2), (3, .int (nI i))] → W p l e room_1 s m #[Value.ref b] below meth c H locs 16 1590 (lw_Z below #[Value.ref b] s) (F0 m pc ls [])
section SL
variable {p : Program} {l : Launch} {e : Env} {R : Room} {s : State} {m : MethodId} {args : Array Value} {below : List Frame} {meth : Method} {c : Code} {H : Heap} {locs : List Loc} {cells slots : Nat} {Q : State → Prop}
variable {cc : ByteArray} {pc : Nat} {ls : Array Slot} {rest : List Value} {A : Nat → Prop} {H0 : Heap}
theorem sx_ld (hx : p.tables.exec = Jvm.exec) (hb : c.code = cc) {b L : Nat} {xs : Nat → Int32} (hX : va_X b L xs s H0) (hbl : b < H0.size) (hbA : ¬ A b) (hS : va_S A H0 H locs) {i : Nat} (hi : i < L) (hL : L ≤ 256) (hdg : decode cc pc = .ok (.iaload, 1))
    (kk : W p l e R s m args below meth c H locs cells slots Q (F0 m (pc + 1) ls (.int (xs i) :: rest))) : W p l e R s m args below meth c H locs cells slots Q (F0 m pc ls (.int (nI i) :: .ref b :: rest)) :=
  va_sld hx hb hX hbl hbA hS (vp_in_nI hi (by omega)) hdg (by rw [nI_clamp (by omega)]; exact kk)
end SL
set_option maxHeartbeats 4000000 in
set_option maxRecDepth 100000 in
theorem law_0 {p : Program} {l : Launch} {e : Env} {s : State} {m : MethodId} {below : List Frame} {meth : Method} {c : Code} {D : va_G} {cI cZ : ClassId} {b L i h h2 : Nat} {r1 r2 : Nat → Nat} {xs : Nat → Int32} (hL : L ≤ 256) (C0 : lw_At p s m meth c b L xs) (hi : i + 4 ≤ L) (hK : va_K D vwCl (tyL cI cZ) s)
    (K : lwK p l e s m below meth c D cI cZ b h h2 r1 r2 i 427) : lwK p l e s m below meth c D cI cZ b h h2 r1 r2 i 108 := by
  obtain ⟨hx, hb, hr0, hml, hown, hts0, hX, hbl, hlocks, hgv⟩ := C0
  have hA : ∀ q : Nat, s.heap.size ≤ q → (fun q : Nat => s.heap.size ≤ q) q := fun _ h => h
  have hbA : ¬ (fun q : Nat => s.heap.size ≤ q) b := Nat.not_le.mpr hbl
  have hts : ∀ w ∈ lw_all, w.before #[Value.ref b] s = true := fun w h => hts0 w (lw_all_tbl h)
  have F : CallFix p m c cL_law 4 s #[Value.ref b] lw_all R_law := ⟨hx, hb, hml, hown, hts⟩
  intro u v fw bw ed hr nx ln lv cm tb H locs ls hI hP hD hS hl
  obtain ⟨n1, n2, n3, n4, n5, n6, n7, n8, n9⟩ := hI.bnd
  refine lv_aload_n hx hb dL_law_108 rfl (lv_at hl 1 rfl) ?_
  refine lv_aload_n hx hb dL_law_109 rfl (lv_at hl 0 rfl) ?_
  refine lv_iload_n hx hb dL_law_110 rfl (lv_at hl 3 rfl) ?_
  refine lv_iconst (v := nI 1) hx hb dL_law_111 (by decide) ?_
  refine xr_iadd hx hb dL_law_112 ?_
  refine sx_ld hx hb hX hbl hbA hS (by omega) hL dL_law_113 ?_
  refine lv_aload_n hx hb dL_law_114 rfl (lv_at hl 0 rfl) ?_
  refine lv_iload_n hx hb dL_law_115 rfl (lv_at hl 3 rfl) ?_
  refine lv_iconst (v := nI 2) hx hb dL_law_116 (by decide) ?_
  refine xr_iadd hx hb dL_law_117 ?_
  refine sx_ld hx hb hX hbl hbA hS (by omega) hL dL_law_118 ?_
  refine lv_aload_n hx hb dL_law_119 rfl (lv_at hl 0 rfl) ?_
  refine lv_iload_n hx hb dL_law_120 rfl (lv_at hl 3 rfl) ?_
  refine lv_iconst (v := nI 3) hx hb dL_law_121 (by decide) ?_
  refine xr_iadd hx hb dL_law_122 ?_
  refine sx_ld hx hb hX hbl hbA hS (by omega) hL dL_law_123 ?_
  refine lv_if_eq (tgt := 131) hx hb dL_law_124 (by decide) (fun c124 => ?_) (fun c124 => ?_)
  · refine lv_iconst (v := nI 0) hx hb dL_law_131 (by decide) ?_
    refine cl_iJ (As := [.int (xs (i + 1)), .int (xs (i + 2)), .int (nI 0)]) (rest := []) (C := RX0) (wc := xwA cI h r1 u hr nx fw bw ln lv cm) (wr := mwA cI cZ h2 r2 v ed tb) F (X_edge l D cI cZ h r1 u.1 u.2.1 u.2.2.1 u.2.2.2.1 hr nx fw bw u.2.2.2.2.1 u.2.2.2.2.2.1 u.2.2.2.2.2.2.1 u.2.2.2.2.2.2.2.1 u.2.2.2.2.2.2.2.2 ln lv cm (xs (i + 1)) (xs (i + 2)) 0 (by decide) n7 n8) (lw_V q80 q81 q82 q20 q83) 3 rfl (by decide +kernel) ⟨Nat.le_of_ble_eq_true rfl, Nat.le_of_ble_eq_true rfl⟩ ⟨rfl, rfl⟩ ⟨Nat.le_of_ble_eq_true rfl, Nat.le_of_ble_eq_true rfl⟩ hK hP hD hS hA [0, 1, 2, 3, 4, 5, 6, 7, 8, 9, 10] [11, 12, 13, 14, 15] rfl rfl (by decide) (by decide) (by decide) 0 0 rfl rfl hl.1 rfl (Nat.le_of_ble_eq_true rfl) dL_law_132 (fun x1 u1 H locs hw1 hP hD hS => ?_)
    obtain ⟨fw1, bw1⟩ := u1
    have hP : va_P D vwCl (mwA cI cZ h2 r2 v ed tb ++ xwA cI h r1 u hr nx fw1 bw1 ln lv cm) H := hP
    have hD : va_D (fun q : Nat => s.heap.size ≤ q) (mwA cI cZ h2 r2 v ed tb ++ xwA cI h r1 u hr nx fw1 bw1 ln lv cm) := hD
    refine lv_aload_n hx hb dL_law_135 rfl (lv_at hl 2 rfl) ?_
    refine lv_aload_n hx hb dL_law_136 rfl (lv_at hl 0 rfl) ?_
    refine lv_iload_n hx hb dL_law_137 rfl (lv_at hl 3 rfl) ?_
    refine lv_iconst (v := nI 1) hx hb dL_law_138 (by decide) ?_
    refine xr_iadd hx hb dL_law_139 ?_
    refine sx_ld hx hb hX hbl hbA hS (by omega) hL dL_law_140 ?_
    refine lv_aload_n hx hb dL_law_141 rfl (lv_at hl 0 rfl) ?_
    refine lv_iload_n hx hb dL_law_142 rfl (lv_at hl 3 rfl) ?_
    refine lv_iconst (v := nI 2) hx hb dL_law_143 (by decide) ?_
    refine xr_iadd hx hb dL_law_144 ?_
    refine sx_ld hx hb hX hbl hbA hS (by omega) hL dL_law_145 ?_
    refine lv_aload_n hx hb dL_law_146 rfl (lv_at hl 0 rfl) ?_
    refine lv_iload_n hx hb dL_law_147 rfl (lv_at hl 3 rfl) ?_
    refine lv_iconst (v := nI 3) hx hb dL_law_148 (by decide) ?_
    refine xr_iadd hx hb dL_law_149 ?_
    refine sx_ld hx hb hX hbl hbA hS (by omega) hL dL_law_150 ?_
    refine lv_if_eq (tgt := 158) hx hb dL_law_151 (by decide) (fun c151 => ?_) (fun c151 => ?_)
    · refine lv_iconst (v := nI 0) hx hb dL_law_158 (by decide) ?_
      refine cl_iJ (As := [.int (xs (i + 1)), .int (xs (i + 2)), .int (nI 0)]) (rest := [.int x1]) (C := RX1) (wc := mwA cI cZ h2 r2 v ed tb) (wr := xwA cI h r1 u hr nx fw1 bw1 ln lv cm) F (M_edge l D cI cZ h2 r2 v.1 v.2.1 ed v.2.2.1 v.2.2.2 tb (xs (i + 1)) (xs (i + 2)) 0 (by decide) n9) (lw_V q216 q217 q218 q21 q219) 3 rfl (by decide +kernel) ⟨Nat.le_of_ble_eq_true rfl, Nat.le_of_ble_eq_true rfl⟩ ⟨rfl, rfl⟩ ⟨Nat.le_of_ble_eq_true rfl, Nat.le_of_ble_eq_true rfl⟩ hK hP hD hS hA [0, 1, 2, 3, 4] [5, 6, 7, 8, 9, 10, 11, 12, 13, 14, 15] rfl rfl (by decide) (by decide) (by decide) 0 1 rfl rfl hl.1 rfl (Nat.le_of_ble_eq_true rfl) dL_law_159 (fun x2 v1 H locs hw2 hP hD hS => ?_)
      
      have hP : va_P D vwCl (xwA cI h r1 u hr nx fw1 bw1 ln lv cm ++ mwA cI cZ h2 r2 v v1 tb) H := hP
      have hD : va_D (fun q : Nat => s.heap.size ≤ q) (xwA cI h r1 u hr nx fw1 bw1 ln lv cm ++ mwA cI cZ h2 r2 v v1 tb) := hD
      have hf := hI.edge_ (t := 0) (by decide) hw1 hw2
      refine lv_icmp_eq (tgt := 427) hx hb dL_law_162 (by decide) (fun c162 => ?_) (fun c162 => ?_)
      · exact K u v fw1 bw1 v1 hr nx ln lv cm tb H locs ls hf.2 hP hD hS hl
      · exact absurd hf.1 c162
    · exact absurd c124 c151
  · refine lv_iconst (v := nI 1) hx hb dL_law_127 (by decide) ?_
    refine lv_goto (tgt := 132) hx hb dL_law_128 (by decide) ?_
    refine cl_iJ (As := [.int (xs (i + 1)), .int (xs (i + 2)), .int (nI 1)]) (rest := []) (C := RX0) (wc := xwA cI h r1 u hr nx fw bw ln lv cm) (wr := mwA cI cZ h2 r2 v ed tb) F (X_edge l D cI cZ h r1 u.1 u.2.1 u.2.2.1 u.2.2.2.1 hr nx fw bw u.2.2.2.2.1 u.2.2.2.2.2.1 u.2.2.2.2.2.2.1 u.2.2.2.2.2.2.2.1 u.2.2.2.2.2.2.2.2 ln lv cm (xs (i + 1)) (xs (i + 2)) 1 (by decide) n7 n8) (lw_V q80 q81 q82 q20 q83) 3 rfl (by decide +kernel) ⟨Nat.le_of_ble_eq_true rfl, Nat.le_of_ble_eq_true rfl⟩ ⟨rfl, rfl⟩ ⟨Nat.le_of_ble_eq_true rfl, Nat.le_of_ble_eq_true rfl⟩ hK hP hD hS hA [0, 1, 2, 3, 4, 5, 6, 7, 8, 9, 10] [11, 12, 13, 14, 15] rfl rfl (by decide) (by decide) (by decide) 0 0 rfl rfl hl.1 rfl (Nat.le_of_ble_eq_true rfl) dL_law_132 (fun x1 u1 H locs hw1 hP hD hS => ?_)
    obtain ⟨fw1, bw1⟩ := u1
    have hP : va_P D vwCl (mwA cI cZ h2 r2 v ed tb ++ xwA cI h r1 u hr nx fw1 bw1 ln lv cm) H := hP
    have hD : va_D (fun q : Nat => s.heap.size ≤ q) (mwA cI cZ h2 r2 v ed tb ++ xwA cI h r1 u hr nx fw1 bw1 ln lv cm) := hD
    refine lv_aload_n hx hb dL_law_135 rfl (lv_at hl 2 rfl) ?_
    refine lv_aload_n hx hb dL_law_136 rfl (lv_at hl 0 rfl) ?_
    refine lv_iload_n hx hb dL_law_137 rfl (lv_at hl 3 rfl) ?_
    refine lv_iconst (v := nI 1) hx hb dL_law_138 (by decide) ?_
    refine xr_iadd hx hb dL_law_139 ?_
    refine sx_ld hx hb hX hbl hbA hS (by omega) hL dL_law_140 ?_
    refine lv_aload_n hx hb dL_law_141 rfl (lv_at hl 0 rfl) ?_
    refine lv_iload_n hx hb dL_law_142 rfl (lv_at hl 3 rfl) ?_
    refine lv_iconst (v := nI 2) hx hb dL_law_143 (by decide) ?_
    refine xr_iadd hx hb dL_law_144 ?_
    refine sx_ld hx hb hX hbl hbA hS (by omega) hL dL_law_145 ?_
    refine lv_aload_n hx hb dL_law_146 rfl (lv_at hl 0 rfl) ?_
    refine lv_iload_n hx hb dL_law_147 rfl (lv_at hl 3 rfl) ?_
    refine lv_iconst (v := nI 3) hx hb dL_law_148 (by decide) ?_
    refine xr_iadd hx hb dL_law_149 ?_
    refine sx_ld hx hb hX hbl hbA hS (by omega) hL dL_law_150 ?_
    refine lv_if_eq (tgt := 158) hx hb dL_law_151 (by decide) (fun c151 => ?_) (fun c151 => ?_)
    · exact absurd c151 c124
    · refine lv_iconst (v := nI 1) hx hb dL_law_154 (by decide) ?_
      refine lv_goto (tgt := 159) hx hb dL_law_155 (by decide) ?_
      refine cl_iJ (As := [.int (xs (i + 1)), .int (xs (i + 2)), .int (nI 1)]) (rest := [.int x1]) (C := RX1) (wc := mwA cI cZ h2 r2 v ed tb) (wr := xwA cI h r1 u hr nx fw1 bw1 ln lv cm) F (M_edge l D cI cZ h2 r2 v.1 v.2.1 ed v.2.2.1 v.2.2.2 tb (xs (i + 1)) (xs (i + 2)) 1 (by decide) n9) (lw_V q216 q217 q218 q21 q219) 3 rfl (by decide +kernel) ⟨Nat.le_of_ble_eq_true rfl, Nat.le_of_ble_eq_true rfl⟩ ⟨rfl, rfl⟩ ⟨Nat.le_of_ble_eq_true rfl, Nat.le_of_ble_eq_true rfl⟩ hK hP hD hS hA [0, 1, 2, 3, 4] [5, 6, 7, 8, 9, 10, 11, 12, 13, 14, 15] rfl rfl (by decide) (by decide) (by decide) 0 1 rfl rfl hl.1 rfl (Nat.le_of_ble_eq_true rfl) dL_law_159 (fun x2 v1 H locs hw2 hP hD hS => ?_)
      
      have hP : va_P D vwCl (xwA cI h r1 u hr nx fw1 bw1 ln lv cm ++ mwA cI cZ h2 r2 v v1 tb) H := hP
      have hD : va_D (fun q : Nat => s.heap.size ≤ q) (xwA cI h r1 u hr nx fw1 bw1 ln lv cm ++ mwA cI cZ h2 r2 v v1 tb) := hD
      have hf := hI.edge_ (t := 1) (by decide) hw1 hw2
      refine lv_icmp_eq (tgt := 427) hx hb dL_law_162 (by decide) (fun c162 => ?_) (fun c162 => ?_)
      · exact K u v fw1 bw1 v1 hr nx ln lv cm tb H locs ls hf.2 hP hD hS hl
      · exact absurd hf.1 c162
set_option maxHeartbeats 4000000 in
set_option maxRecDepth 100000 in
theorem law_1 {p : Program} {l : Launch} {e : Env} {s : State} {m : MethodId} {below : List Frame} {meth : Method} {c : Code} {D : va_G} {cI cZ : ClassId} {b L i h h2 : Nat} {r1 r2 : Nat → Nat} {xs : Nat → Int32} (hL : L ≤ 256) (C0 : lw_At p s m meth c b L xs) (hi : i + 4 ≤ L) (hK : va_K D vwCl (tyL cI cZ) s)
    (K : lwK p l e s m below meth c D cI cZ b h h2 r1 r2 i 427) : lwK p l e s m below meth c D cI cZ b h h2 r1 r2 i 167 := by
  obtain ⟨hx, hb, hr0, hml, hown, hts0, hX, hbl, hlocks, hgv⟩ := C0
  have hA : ∀ q : Nat, s.heap.size ≤ q → (fun q : Nat => s.heap.size ≤ q) q := fun _ h => h
  have hbA : ¬ (fun q : Nat => s.heap.size ≤ q) b := Nat.not_le.mpr hbl
  have hts : ∀ w ∈ lw_all, w.before #[Value.ref b] s = true := fun w h => hts0 w (lw_all_tbl h)
  have F : CallFix p m c cL_law 4 s #[Value.ref b] lw_all R_law := ⟨hx, hb, hml, hown, hts⟩
  intro u v fw bw ed hr nx ln lv cm tb H locs ls hI hP hD hS hl
  obtain ⟨n1, n2, n3, n4, n5, n6, n7, n8, n9⟩ := hI.bnd
  refine lv_aload_n hx hb dL_law_167 rfl (lv_at hl 1 rfl) ?_
  refine lv_aload_n hx hb dL_law_168 rfl (lv_at hl 0 rfl) ?_
  refine lv_iload_n hx hb dL_law_169 rfl (lv_at hl 3 rfl) ?_
  refine lv_iconst (v := nI 1) hx hb dL_law_170 (by decide) ?_
  refine xr_iadd hx hb dL_law_171 ?_
  refine sx_ld hx hb hX hbl hbA hS (by omega) hL dL_law_172 ?_
  refine cl_iJ (As := [.int (xs (i + 1))]) (rest := []) (C := RX0) (wc := xwA cI h r1 u hr nx fw bw ln lv cm) (wr := mwA cI cZ h2 r2 v ed tb) F (X_label l D cI cZ h r1 u.1 u.2.1 u.2.2.1 u.2.2.2.1 hr nx fw bw u.2.2.2.2.1 u.2.2.2.2.2.1 u.2.2.2.2.2.2.1 u.2.2.2.2.2.2.2.1 u.2.2.2.2.2.2.2.2 ln lv cm (xs (i + 1)) n1 n2 n3) (lw_V q87 q88 q89 q20 q90) 1 rfl (by decide +kernel) ⟨Nat.le_of_ble_eq_true rfl, Nat.le_of_ble_eq_true rfl⟩ ⟨rfl, rfl⟩ ⟨Nat.le_of_ble_eq_true rfl, Nat.le_of_ble_eq_true rfl⟩ hK hP hD hS hA [0, 1, 2, 3, 4, 5, 6, 7, 8, 9, 10] [11, 12, 13, 14, 15] rfl rfl (by decide) (by decide) (by decide) 0 0 rfl rfl hl.1 rfl (Nat.le_of_ble_eq_true rfl) dL_law_173 (fun x1 u1 H locs hw1 hP hD hS => ?_)
  have hP : va_P D vwCl (mwA cI cZ h2 r2 v ed tb ++ xwA cI h r1 u1 hr nx fw bw ln lv cm) H := hP
  have hD : va_D (fun q : Nat => s.heap.size ≤ q) (mwA cI cZ h2 r2 v ed tb ++ xwA cI h r1 u1 hr nx fw bw ln lv cm) := hD
  refine lv_aload_n hx hb dL_law_176 rfl (lv_at hl 2 rfl) ?_
  refine lv_aload_n hx hb dL_law_177 rfl (lv_at hl 0 rfl) ?_
  refine lv_iload_n hx hb dL_law_178 rfl (lv_at hl 3 rfl) ?_
  refine lv_iconst (v := nI 1) hx hb dL_law_179 (by decide) ?_
  refine xr_iadd hx hb dL_law_180 ?_
  refine sx_ld hx hb hX hbl hbA hS (by omega) hL dL_law_181 ?_
  refine cl_iJ (As := [.int (xs (i + 1))]) (rest := [.int x1]) (C := RX1) (wc := mwA cI cZ h2 r2 v ed tb) (wr := xwA cI h r1 u1 hr nx fw bw ln lv cm) F (M_label l D cI cZ h2 r2 v.1 v.2.1 ed v.2.2.1 v.2.2.2 tb (xs (i + 1)) n4 n5) (lw_V q220 q221 q222 q21 q223) 1 rfl (by decide +kernel) ⟨Nat.le_of_ble_eq_true rfl, Nat.le_of_ble_eq_true rfl⟩ ⟨rfl, rfl⟩ ⟨Nat.le_of_ble_eq_true rfl, Nat.le_of_ble_eq_true rfl⟩ hK hP hD hS hA [0, 1, 2, 3, 4] [5, 6, 7, 8, 9, 10, 11, 12, 13, 14, 15] rfl rfl (by decide) (by decide) (by decide) 0 1 rfl rfl hl.1 rfl (Nat.le_of_ble_eq_true rfl) dL_law_182 (fun x2 v1 H locs hw2 hP hD hS => ?_)
  
  have hP : va_P D vwCl (xwA cI h r1 u1 hr nx fw bw ln lv cm ++ mwA cI cZ h2 r2 v1 ed tb) H := hP
  have hD : va_D (fun q : Nat => s.heap.size ≤ q) (xwA cI h r1 u1 hr nx fw bw ln lv cm ++ mwA cI cZ h2 r2 v1 ed tb) := hD
  have hw1 : (¬ inR (xs (i + 1)) 3 ∧ x1 = -1 ∧ u1 = u) ∨ (∃ j, j < 3 ∧ (xs (i + 1)) = nI j ∧ xPush (0 + j) u.1 u.2.1 u.2.2.1 u.2.2.2.1 u.2.2.2.2.1 u.2.2.2.2.2.1 u.2.2.2.2.2.2.1 u.2.2.2.2.2.2.2.1 u.2.2.2.2.2.2.2.2 x1 u1) := by simpa only [Nat.zero_add] using hw1
  have hf := INV.label_ 0 0 (by decide) (by decide) hI hw1 hw2
  refine lv_icmp_eq (tgt := 427) hx hb dL_law_185 (by decide) (fun c185 => ?_) (fun c185 => ?_)
  · exact K u1 v1 fw bw ed hr nx ln lv cm tb H locs ls hf.2 hP hD hS hl
  · exact absurd hf.1 c185
set_option maxHeartbeats 4000000 in
set_option maxRecDepth 100000 in
theorem law_2 {p : Program} {l : Launch} {e : Env} {s : State} {m : MethodId} {below : List Frame} {meth : Method} {c : Code} {D : va_G} {cI cZ : ClassId} {b L i h h2 : Nat} {r1 r2 : Nat → Nat} {xs : Nat → Int32} (hL : L ≤ 256) (C0 : lw_At p s m meth c b L xs) (hi : i + 4 ≤ L) (hK : va_K D vwCl (tyL cI cZ) s)
    (K : lwK p l e s m below meth c D cI cZ b h h2 r1 r2 i 427) : lwK p l e s m below meth c D cI cZ b h h2 r1 r2 i 190 := by
  obtain ⟨hx, hb, hr0, hml, hown, hts0, hX, hbl, hlocks, hgv⟩ := C0
  have hA : ∀ q : Nat, s.heap.size ≤ q → (fun q : Nat => s.heap.size ≤ q) q := fun _ h => h
  have hbA : ¬ (fun q : Nat => s.heap.size ≤ q) b := Nat.not_le.mpr hbl
  have hts : ∀ w ∈ lw_all, w.before #[Value.ref b] s = true := fun w h => hts0 w (lw_all_tbl h)
  have F : CallFix p m c cL_law 4 s #[Value.ref b] lw_all R_law := ⟨hx, hb, hml, hown, hts⟩
  intro u v fw bw ed hr nx ln lv cm tb H locs ls hI hP hD hS hl
  obtain ⟨n1, n2, n3, n4, n5, n6, n7, n8, n9⟩ := hI.bnd
  refine lv_aload_n hx hb dL_law_190 rfl (lv_at hl 1 rfl) ?_
  refine lv_aload_n hx hb dL_law_191 rfl (lv_at hl 0 rfl) ?_
  refine lv_iload_n hx hb dL_law_192 rfl (lv_at hl 3 rfl) ?_
  refine lv_iconst (v := nI 1) hx hb dL_law_193 (by decide) ?_
  refine xr_iadd hx hb dL_law_194 ?_
  refine sx_ld hx hb hX hbl hbA hS (by omega) hL dL_law_195 ?_
  refine cl_iJ (As := [.int (xs (i + 1))]) (rest := []) (C := RX0) (wc := xwA cI h r1 u hr nx fw bw ln lv cm) (wr := mwA cI cZ h2 r2 v ed tb) F (X_back l D cI cZ h r1 u.1 u.2.1 u.2.2.1 u.2.2.2.1 hr nx fw bw u.2.2.2.2.1 u.2.2.2.2.2.1 u.2.2.2.2.2.2.1 u.2.2.2.2.2.2.2.1 u.2.2.2.2.2.2.2.2 ln lv cm (xs (i + 1)) n1 n2 n3) (lw_V q103 q104 q105 q20 q106) 1 rfl (by decide +kernel) ⟨Nat.le_of_ble_eq_true rfl, Nat.le_of_ble_eq_true rfl⟩ ⟨rfl, rfl⟩ ⟨Nat.le_of_ble_eq_true rfl, Nat.le_of_ble_eq_true rfl⟩ hK hP hD hS hA [0, 1, 2, 3, 4, 5, 6, 7, 8, 9, 10] [11, 12, 13, 14, 15] rfl rfl (by decide) (by decide) (by decide) 0 0 rfl rfl hl.1 rfl (Nat.le_of_ble_eq_true rfl) dL_law_196 (fun x1 u1 H locs hw1 hP hD hS => ?_)
  have hP : va_P D vwCl (mwA cI cZ h2 r2 v ed tb ++ xwA cI h r1 u1 hr nx fw bw ln lv cm) H := hP
  have hD : va_D (fun q : Nat => s.heap.size ≤ q) (mwA cI cZ h2 r2 v ed tb ++ xwA cI h r1 u1 hr nx fw bw ln lv cm) := hD
  refine lv_aload_n hx hb dL_law_199 rfl (lv_at hl 2 rfl) ?_
  refine lv_aload_n hx hb dL_law_200 rfl (lv_at hl 0 rfl) ?_
  refine lv_iload_n hx hb dL_law_201 rfl (lv_at hl 3 rfl) ?_
  refine lv_iconst (v := nI 1) hx hb dL_law_202 (by decide) ?_
  refine xr_iadd hx hb dL_law_203 ?_
  refine sx_ld hx hb hX hbl hbA hS (by omega) hL dL_law_204 ?_
  refine cl_iJ (As := [.int (xs (i + 1))]) (rest := [.int x1]) (C := RX1) (wc := mwA cI cZ h2 r2 v ed tb) (wr := xwA cI h r1 u1 hr nx fw bw ln lv cm) F (M_back l D cI cZ h2 r2 v.1 v.2.1 ed v.2.2.1 v.2.2.2 tb (xs (i + 1)) n4 n5) (lw_V q228 q229 q230 q21 q231) 1 rfl (by decide +kernel) ⟨Nat.le_of_ble_eq_true rfl, Nat.le_of_ble_eq_true rfl⟩ ⟨rfl, rfl⟩ ⟨Nat.le_of_ble_eq_true rfl, Nat.le_of_ble_eq_true rfl⟩ hK hP hD hS hA [0, 1, 2, 3, 4] [5, 6, 7, 8, 9, 10, 11, 12, 13, 14, 15] rfl rfl (by decide) (by decide) (by decide) 0 1 rfl rfl hl.1 rfl (Nat.le_of_ble_eq_true rfl) dL_law_205 (fun x2 v1 H locs hw2 hP hD hS => ?_)
  
  have hP : va_P D vwCl (xwA cI h r1 u1 hr nx fw bw ln lv cm ++ mwA cI cZ h2 r2 v1 ed tb) H := hP
  have hD : va_D (fun q : Nat => s.heap.size ≤ q) (xwA cI h r1 u1 hr nx fw bw ln lv cm ++ mwA cI cZ h2 r2 v1 ed tb) := hD
  have hw1 : (¬ inR (xs (i + 1)) 3 ∧ x1 = -1 ∧ u1 = u) ∨ (∃ j, j < 3 ∧ (xs (i + 1)) = nI j ∧ xPush (3 + j) u.1 u.2.1 u.2.2.1 u.2.2.2.1 u.2.2.2.2.1 u.2.2.2.2.2.1 u.2.2.2.2.2.2.1 u.2.2.2.2.2.2.2.1 u.2.2.2.2.2.2.2.2 x1 u1) := hw1
  have hf := INV.label_ 3 1 (by decide) (by decide) hI hw1 hw2
  refine lv_icmp_eq (tgt := 427) hx hb dL_law_208 (by decide) (fun c208 => ?_) (fun c208 => ?_)
  · exact K u1 v1 fw bw ed hr nx ln lv cm tb H locs ls hf.2 hP hD hS hl
  · exact absurd hf.1 c208
set_option maxHeartbeats 4000000 in
set_option maxRecDepth 100000 in
theorem law_3 {p : Program} {l : Launch} {e : Env} {s : State} {m : MethodId} {below : List Frame} {meth : Method} {c : Code} {D : va_G} {cI cZ : ClassId} {b L i h h2 : Nat} {r1 r2 : Nat → Nat} {xs : Nat → Int32} (hL : L ≤ 256) (C0 : lw_At p s m meth c b L xs) (hi : i + 4 ≤ L) (hK : va_K D vwCl (tyL cI cZ) s)
    (K : lwK p l e s m below meth c D cI cZ b h h2 r1 r2 i 427) : lwK p l e s m below meth c D cI cZ b h h2 r1 r2 i 213 := by
  obtain ⟨hx, hb, hr0, hml, hown, hts0, hX, hbl, hlocks, hgv⟩ := C0
  have hA : ∀ q : Nat, s.heap.size ≤ q → (fun q : Nat => s.heap.size ≤ q) q := fun _ h => h
  have hbA : ¬ (fun q : Nat => s.heap.size ≤ q) b := Nat.not_le.mpr hbl
  have hts : ∀ w ∈ lw_all, w.before #[Value.ref b] s = true := fun w h => hts0 w (lw_all_tbl h)
  have F : CallFix p m c cL_law 4 s #[Value.ref b] lw_all R_law := ⟨hx, hb, hml, hown, hts⟩
  intro u v fw bw ed hr nx ln lv cm tb H locs ls hI hP hD hS hl
  obtain ⟨n1, n2, n3, n4, n5, n6, n7, n8, n9⟩ := hI.bnd
  refine lv_aload_n hx hb dL_law_213 rfl (lv_at hl 1 rfl) ?_
  refine lv_aload_n hx hb dL_law_214 rfl (lv_at hl 0 rfl) ?_
  refine lv_iload_n hx hb dL_law_215 rfl (lv_at hl 3 rfl) ?_
  refine lv_iconst (v := nI 1) hx hb dL_law_216 (by decide) ?_
  refine xr_iadd hx hb dL_law_217 ?_
  refine sx_ld hx hb hX hbl hbA hS (by omega) hL dL_law_218 ?_
  refine cl_iJ (As := [.int (xs (i + 1))]) (rest := []) (C := RX0) (wc := xwA cI h r1 u hr nx fw bw ln lv cm) (wr := mwA cI cZ h2 r2 v ed tb) F (X_at l D cI cZ h r1 u.1 u.2.1 u.2.2.1 u.2.2.2.1 hr nx fw bw u.2.2.2.2.1 u.2.2.2.2.2.1 u.2.2.2.2.2.2.1 u.2.2.2.2.2.2.2.1 u.2.2.2.2.2.2.2.2 ln lv cm (xs (i + 1)) n1 n2 n3) (lw_V q107 q108 q109 q20 q110) 1 rfl (by decide +kernel) ⟨Nat.le_of_ble_eq_true rfl, Nat.le_of_ble_eq_true rfl⟩ ⟨rfl, rfl⟩ ⟨Nat.le_of_ble_eq_true rfl, Nat.le_of_ble_eq_true rfl⟩ hK hP hD hS hA [0, 1, 2, 3, 4, 5, 6, 7, 8, 9, 10] [11, 12, 13, 14, 15] rfl rfl (by decide) (by decide) (by decide) 0 0 rfl rfl hl.1 rfl (Nat.le_of_ble_eq_true rfl) dL_law_219 (fun x1 u1 H locs hw1 hP hD hS => ?_)
  have hP : va_P D vwCl (mwA cI cZ h2 r2 v ed tb ++ xwA cI h r1 u1 hr nx fw bw ln lv cm) H := hP
  have hD : va_D (fun q : Nat => s.heap.size ≤ q) (mwA cI cZ h2 r2 v ed tb ++ xwA cI h r1 u1 hr nx fw bw ln lv cm) := hD
  refine lv_aload_n hx hb dL_law_222 rfl (lv_at hl 2 rfl) ?_
  refine lv_aload_n hx hb dL_law_223 rfl (lv_at hl 0 rfl) ?_
  refine lv_iload_n hx hb dL_law_224 rfl (lv_at hl 3 rfl) ?_
  refine lv_iconst (v := nI 1) hx hb dL_law_225 (by decide) ?_
  refine xr_iadd hx hb dL_law_226 ?_
  refine sx_ld hx hb hX hbl hbA hS (by omega) hL dL_law_227 ?_
  refine cl_iJ (As := [.int (xs (i + 1))]) (rest := [.int x1]) (C := RX1) (wc := mwA cI cZ h2 r2 v ed tb) (wr := xwA cI h r1 u1 hr nx fw bw ln lv cm) F (M_at l D cI cZ h2 r2 v.1 v.2.1 ed v.2.2.1 v.2.2.2 tb (xs (i + 1)) n4 n5) (lw_V q232 q233 q234 q21 q235) 1 rfl (by decide +kernel) ⟨Nat.le_of_ble_eq_true rfl, Nat.le_of_ble_eq_true rfl⟩ ⟨rfl, rfl⟩ ⟨Nat.le_of_ble_eq_true rfl, Nat.le_of_ble_eq_true rfl⟩ hK hP hD hS hA [0, 1, 2, 3, 4] [5, 6, 7, 8, 9, 10, 11, 12, 13, 14, 15] rfl rfl (by decide) (by decide) (by decide) 0 1 rfl rfl hl.1 rfl (Nat.le_of_ble_eq_true rfl) dL_law_228 (fun x2 v1 H locs hw2 hP hD hS => ?_)
  
  have hP : va_P D vwCl (xwA cI h r1 u1 hr nx fw bw ln lv cm ++ mwA cI cZ h2 r2 v1 ed tb) H := hP
  have hD : va_D (fun q : Nat => s.heap.size ≤ q) (xwA cI h r1 u1 hr nx fw bw ln lv cm ++ mwA cI cZ h2 r2 v1 ed tb) := hD
  have hf := hI.at_ hw1 hw2
  refine lv_icmp_eq (tgt := 427) hx hb dL_law_231 (by decide) (fun c231 => ?_) (fun c231 => ?_)
  · exact K u1 v1 fw bw ed hr nx ln lv cm tb H locs ls hf.2 hP hD hS hl
  · exact absurd hf.1 c231
set_option maxHeartbeats 4000000 in
set_option maxRecDepth 100000 in
theorem law_4 {p : Program} {l : Launch} {e : Env} {s : State} {m : MethodId} {below : List Frame} {meth : Method} {c : Code} {D : va_G} {cI cZ : ClassId} {b L i h h2 : Nat} {r1 r2 : Nat → Nat} {xs : Nat → Int32} (hL : L ≤ 256) (C0 : lw_At p s m meth c b L xs) (hi : i + 4 ≤ L) (hK : va_K D vwCl (tyL cI cZ) s)
    (K : lwK p l e s m below meth c D cI cZ b h h2 r1 r2 i 427) : lwK p l e s m below meth c D cI cZ b h h2 r1 r2 i 236 := by
  obtain ⟨hx, hb, hr0, hml, hown, hts0, hX, hbl, hlocks, hgv⟩ := C0
  have hA : ∀ q : Nat, s.heap.size ≤ q → (fun q : Nat => s.heap.size ≤ q) q := fun _ h => h
  have hbA : ¬ (fun q : Nat => s.heap.size ≤ q) b := Nat.not_le.mpr hbl
  have hts : ∀ w ∈ lw_all, w.before #[Value.ref b] s = true := fun w h => hts0 w (lw_all_tbl h)
  have F : CallFix p m c cL_law 4 s #[Value.ref b] lw_all R_law := ⟨hx, hb, hml, hown, hts⟩
  intro u v fw bw ed hr nx ln lv cm tb H locs ls hI hP hD hS hl
  obtain ⟨n1, n2, n3, n4, n5, n6, n7, n8, n9⟩ := hI.bnd
  refine lv_aload_n hx hb dL_law_236 rfl (lv_at hl 1 rfl) ?_
  refine cl_iJ (As := []) (rest := []) (C := RX0) (wc := xwA cI h r1 u hr nx fw bw ln lv cm) (wr := mwA cI cZ h2 r2 v ed tb) F (X_then l D cI cZ h r1 u.1 u.2.1 u.2.2.1 u.2.2.2.1 hr nx fw bw u.2.2.2.2.1 u.2.2.2.2.2.1 u.2.2.2.2.2.2.1 u.2.2.2.2.2.2.2.1 u.2.2.2.2.2.2.2.2 ln lv cm n1 n2 n3) (lw_V q111 q112 q113 q20 q114) 0 rfl (by decide +kernel) ⟨Nat.le_of_ble_eq_true rfl, Nat.le_of_ble_eq_true rfl⟩ ⟨rfl, rfl⟩ ⟨Nat.le_of_ble_eq_true rfl, Nat.le_of_ble_eq_true rfl⟩ hK hP hD hS hA [0, 1, 2, 3, 4, 5, 6, 7, 8, 9, 10] [11, 12, 13, 14, 15] rfl rfl (by decide) (by decide) (by decide) 0 0 rfl rfl hl.1 rfl (Nat.le_of_ble_eq_true rfl) dL_law_237 (fun x1 u1 H locs hw1 hP hD hS => ?_)
  have hP : va_P D vwCl (mwA cI cZ h2 r2 v ed tb ++ xwA cI h r1 u1 hr nx fw bw ln lv cm) H := hP
  have hD : va_D (fun q : Nat => s.heap.size ≤ q) (mwA cI cZ h2 r2 v ed tb ++ xwA cI h r1 u1 hr nx fw bw ln lv cm) := hD
  refine lv_aload_n hx hb dL_law_240 rfl (lv_at hl 2 rfl) ?_
  refine cl_iJ (As := []) (rest := [.int x1]) (C := RX1) (wc := mwA cI cZ h2 r2 v ed tb) (wr := xwA cI h r1 u1 hr nx fw bw ln lv cm) F (M_then l D cI cZ h2 r2 v.1 v.2.1 ed v.2.2.1 v.2.2.2 tb n4 n5) (lw_V q236 q237 q238 q21 q239) 0 rfl (by decide +kernel) ⟨Nat.le_of_ble_eq_true rfl, Nat.le_of_ble_eq_true rfl⟩ ⟨rfl, rfl⟩ ⟨Nat.le_of_ble_eq_true rfl, Nat.le_of_ble_eq_true rfl⟩ hK hP hD hS hA [0, 1, 2, 3, 4] [5, 6, 7, 8, 9, 10, 11, 12, 13, 14, 15] rfl rfl (by decide) (by decide) (by decide) 0 1 rfl rfl hl.1 rfl (Nat.le_of_ble_eq_true rfl) dL_law_241 (fun x2 v1 H locs hw2 hP hD hS => ?_)
  
  have hP : va_P D vwCl (xwA cI h r1 u1 hr nx fw bw ln lv cm ++ mwA cI cZ h2 r2 v1 ed tb) H := hP
  have hD : va_D (fun q : Nat => s.heap.size ≤ q) (xwA cI h r1 u1 hr nx fw bw ln lv cm ++ mwA cI cZ h2 r2 v1 ed tb) := hD
  have hf := hI.then_ hw1 hw2
  refine lv_icmp_eq (tgt := 427) hx hb dL_law_244 (by decide) (fun c244 => ?_) (fun c244 => ?_)
  · exact K u1 v1 fw bw ed hr nx ln lv cm tb H locs ls hf.2 hP hD hS hl
  · exact absurd hf.1 c244
set_option maxHeartbeats 4000000 in
set_option maxRecDepth 100000 in
theorem law_5 {p : Program} {l : Launch} {e : Env} {s : State} {m : MethodId} {below : List Frame} {meth : Method} {c : Code} {D : va_G} {cI cZ : ClassId} {b L i h h2 : Nat} {r1 r2 : Nat → Nat} {xs : Nat → Int32} (hL : L ≤ 256) (C0 : lw_At p s m meth c b L xs) (hi : i + 4 ≤ L) (hK : va_K D vwCl (tyL cI cZ) s)
    (K : lwK p l e s m below meth c D cI cZ b h h2 r1 r2 i 427) : lwK p l e s m below meth c D cI cZ b h h2 r1 r2 i 249 := by
  obtain ⟨hx, hb, hr0, hml, hown, hts0, hX, hbl, hlocks, hgv⟩ := C0
  have hA : ∀ q : Nat, s.heap.size ≤ q → (fun q : Nat => s.heap.size ≤ q) q := fun _ h => h
  have hbA : ¬ (fun q : Nat => s.heap.size ≤ q) b := Nat.not_le.mpr hbl
  have hts : ∀ w ∈ lw_all, w.before #[Value.ref b] s = true := fun w h => hts0 w (lw_all_tbl h)
  have F : CallFix p m c cL_law 4 s #[Value.ref b] lw_all R_law := ⟨hx, hb, hml, hown, hts⟩
  intro u v fw bw ed hr nx ln lv cm tb H locs ls hI hP hD hS hl
  obtain ⟨n1, n2, n3, n4, n5, n6, n7, n8, n9⟩ := hI.bnd
  refine lv_aload_n hx hb dL_law_249 rfl (lv_at hl 1 rfl) ?_
  refine cl_iJ (As := []) (rest := []) (C := RX0) (wc := xwA cI h r1 u hr nx fw bw ln lv cm) (wr := mwA cI cZ h2 r2 v ed tb) F (X_or l D cI cZ h r1 u.1 u.2.1 u.2.2.1 u.2.2.2.1 hr nx fw bw u.2.2.2.2.1 u.2.2.2.2.2.1 u.2.2.2.2.2.2.1 u.2.2.2.2.2.2.2.1 u.2.2.2.2.2.2.2.2 ln lv cm n1 n2 n3) (lw_V q115 q116 q117 q20 q118) 0 rfl (by decide +kernel) ⟨Nat.le_of_ble_eq_true rfl, Nat.le_of_ble_eq_true rfl⟩ ⟨rfl, rfl⟩ ⟨Nat.le_of_ble_eq_true rfl, Nat.le_of_ble_eq_true rfl⟩ hK hP hD hS hA [0, 1, 2, 3, 4, 5, 6, 7, 8, 9, 10] [11, 12, 13, 14, 15] rfl rfl (by decide) (by decide) (by decide) 0 0 rfl rfl hl.1 rfl (Nat.le_of_ble_eq_true rfl) dL_law_250 (fun x1 u1 H locs hw1 hP hD hS => ?_)
  have hP : va_P D vwCl (mwA cI cZ h2 r2 v ed tb ++ xwA cI h r1 u1 hr nx fw bw ln lv cm) H := hP
  have hD : va_D (fun q : Nat => s.heap.size ≤ q) (mwA cI cZ h2 r2 v ed tb ++ xwA cI h r1 u1 hr nx fw bw ln lv cm) := hD
  refine lv_aload_n hx hb dL_law_253 rfl (lv_at hl 2 rfl) ?_
  refine cl_iJ (As := []) (rest := [.int x1]) (C := RX1) (wc := mwA cI cZ h2 r2 v ed tb) (wr := xwA cI h r1 u1 hr nx fw bw ln lv cm) F (M_or l D cI cZ h2 r2 v.1 v.2.1 ed v.2.2.1 v.2.2.2 tb n4 n5) (lw_V q240 q241 q242 q21 q243) 0 rfl (by decide +kernel) ⟨Nat.le_of_ble_eq_true rfl, Nat.le_of_ble_eq_true rfl⟩ ⟨rfl, rfl⟩ ⟨Nat.le_of_ble_eq_true rfl, Nat.le_of_ble_eq_true rfl⟩ hK hP hD hS hA [0, 1, 2, 3, 4] [5, 6, 7, 8, 9, 10, 11, 12, 13, 14, 15] rfl rfl (by decide) (by decide) (by decide) 0 1 rfl rfl hl.1 rfl (Nat.le_of_ble_eq_true rfl) dL_law_254 (fun x2 v1 H locs hw2 hP hD hS => ?_)
  
  have hP : va_P D vwCl (xwA cI h r1 u1 hr nx fw bw ln lv cm ++ mwA cI cZ h2 r2 v1 ed tb) H := hP
  have hD : va_D (fun q : Nat => s.heap.size ≤ q) (xwA cI h r1 u1 hr nx fw bw ln lv cm ++ mwA cI cZ h2 r2 v1 ed tb) := hD
  have hf := hI.or_ hw1 hw2
  refine lv_icmp_eq (tgt := 427) hx hb dL_law_257 (by decide) (fun c257 => ?_) (fun c257 => ?_)
  · exact K u1 v1 fw bw ed hr nx ln lv cm tb H locs ls hf.2 hP hD hS hl
  · exact absurd hf.1 c257
set_option maxHeartbeats 4000000 in
set_option maxRecDepth 100000 in
theorem law_6 {p : Program} {l : Launch} {e : Env} {s : State} {m : MethodId} {below : List Frame} {meth : Method} {c : Code} {D : va_G} {cI cZ : ClassId} {b L i h h2 : Nat} {r1 r2 : Nat → Nat} {xs : Nat → Int32} (hL : L ≤ 256) (C0 : lw_At p s m meth c b L xs) (hi : i + 4 ≤ L) (hK : va_K D vwCl (tyL cI cZ) s)
    (K : lwK p l e s m below meth c D cI cZ b h h2 r1 r2 i 427) : lwK p l e s m below meth c D cI cZ b h h2 r1 r2 i 262 := by
  obtain ⟨hx, hb, hr0, hml, hown, hts0, hX, hbl, hlocks, hgv⟩ := C0
  have hA : ∀ q : Nat, s.heap.size ≤ q → (fun q : Nat => s.heap.size ≤ q) q := fun _ h => h
  have hbA : ¬ (fun q : Nat => s.heap.size ≤ q) b := Nat.not_le.mpr hbl
  have hts : ∀ w ∈ lw_all, w.before #[Value.ref b] s = true := fun w h => hts0 w (lw_all_tbl h)
  have F : CallFix p m c cL_law 4 s #[Value.ref b] lw_all R_law := ⟨hx, hb, hml, hown, hts⟩
  intro u v fw bw ed hr nx ln lv cm tb H locs ls hI hP hD hS hl
  obtain ⟨n1, n2, n3, n4, n5, n6, n7, n8, n9⟩ := hI.bnd
  refine lv_aload_n hx hb dL_law_262 rfl (lv_at hl 1 rfl) ?_
  refine cl_iJ (As := []) (rest := []) (C := RX0) (wc := xwA cI h r1 u hr nx fw bw ln lv cm) (wr := mwA cI cZ h2 r2 v ed tb) F (X_star l D cI cZ h r1 u.1 u.2.1 u.2.2.1 u.2.2.2.1 hr nx fw bw u.2.2.2.2.1 u.2.2.2.2.2.1 u.2.2.2.2.2.2.1 u.2.2.2.2.2.2.2.1 u.2.2.2.2.2.2.2.2 ln lv cm n1 n2 n3) (lw_V q119 q120 q121 q20 q122) 0 rfl (by decide +kernel) ⟨Nat.le_of_ble_eq_true rfl, Nat.le_of_ble_eq_true rfl⟩ ⟨rfl, rfl⟩ ⟨Nat.le_of_ble_eq_true rfl, Nat.le_of_ble_eq_true rfl⟩ hK hP hD hS hA [0, 1, 2, 3, 4, 5, 6, 7, 8, 9, 10] [11, 12, 13, 14, 15] rfl rfl (by decide) (by decide) (by decide) 0 0 rfl rfl hl.1 rfl (Nat.le_of_ble_eq_true rfl) dL_law_263 (fun x1 u1 H locs hw1 hP hD hS => ?_)
  have hP : va_P D vwCl (mwA cI cZ h2 r2 v ed tb ++ xwA cI h r1 u1 hr nx fw bw ln lv cm) H := hP
  have hD : va_D (fun q : Nat => s.heap.size ≤ q) (mwA cI cZ h2 r2 v ed tb ++ xwA cI h r1 u1 hr nx fw bw ln lv cm) := hD
  refine lv_aload_n hx hb dL_law_266 rfl (lv_at hl 2 rfl) ?_
  refine cl_iJ (As := []) (rest := [.int x1]) (C := RX1) (wc := mwA cI cZ h2 r2 v ed tb) (wr := xwA cI h r1 u1 hr nx fw bw ln lv cm) F (M_star l D cI cZ h2 r2 v.1 v.2.1 ed v.2.2.1 v.2.2.2 tb n4 n5) (lw_V q244 q245 q246 q21 q247) 0 rfl (by decide +kernel) ⟨Nat.le_of_ble_eq_true rfl, Nat.le_of_ble_eq_true rfl⟩ ⟨rfl, rfl⟩ ⟨Nat.le_of_ble_eq_true rfl, Nat.le_of_ble_eq_true rfl⟩ hK hP hD hS hA [0, 1, 2, 3, 4] [5, 6, 7, 8, 9, 10, 11, 12, 13, 14, 15] rfl rfl (by decide) (by decide) (by decide) 0 1 rfl rfl hl.1 rfl (Nat.le_of_ble_eq_true rfl) dL_law_267 (fun x2 v1 H locs hw2 hP hD hS => ?_)
  
  have hP : va_P D vwCl (xwA cI h r1 u1 hr nx fw bw ln lv cm ++ mwA cI cZ h2 r2 v1 ed tb) H := hP
  have hD : va_D (fun q : Nat => s.heap.size ≤ q) (xwA cI h r1 u1 hr nx fw bw ln lv cm ++ mwA cI cZ h2 r2 v1 ed tb) := hD
  have hf := hI.star_ hw1 hw2
  refine lv_icmp_eq (tgt := 427) hx hb dL_law_270 (by decide) (fun c270 => ?_) (fun c270 => ?_)
  · exact K u1 v1 fw bw ed hr nx ln lv cm tb H locs ls hf.2 hP hD hS hl
  · exact absurd hf.1 c270
set_option maxHeartbeats 4000000 in
set_option maxRecDepth 100000 in
theorem law_7 {p : Program} {l : Launch} {e : Env} {s : State} {m : MethodId} {below : List Frame} {meth : Method} {c : Code} {D : va_G} {cI cZ : ClassId} {b L i h h2 : Nat} {r1 r2 : Nat → Nat} {xs : Nat → Int32} (hL : L ≤ 256) (C0 : lw_At p s m meth c b L xs) (hi : i + 4 ≤ L) (hK : va_K D vwCl (tyL cI cZ) s)
    (K : lwK p l e s m below meth c D cI cZ b h h2 r1 r2 i 427) : lwK p l e s m below meth c D cI cZ b h h2 r1 r2 i 275 := by
  obtain ⟨hx, hb, hr0, hml, hown, hts0, hX, hbl, hlocks, hgv⟩ := C0
  have hA : ∀ q : Nat, s.heap.size ≤ q → (fun q : Nat => s.heap.size ≤ q) q := fun _ h => h
  have hbA : ¬ (fun q : Nat => s.heap.size ≤ q) b := Nat.not_le.mpr hbl
  have hts : ∀ w ∈ lw_all, w.before #[Value.ref b] s = true := fun w h => hts0 w (lw_all_tbl h)
  have F : CallFix p m c cL_law 4 s #[Value.ref b] lw_all R_law := ⟨hx, hb, hml, hown, hts⟩
  intro u v fw bw ed hr nx ln lv cm tb H locs ls hI hP hD hS hl
  obtain ⟨n1, n2, n3, n4, n5, n6, n7, n8, n9⟩ := hI.bnd
  refine lv_aload_n hx hb dL_law_275 rfl (lv_at hl 1 rfl) ?_
  refine cl_vJ (As := []) (rest := []) (C := RX0) (wc := xwA cI h r1 u hr nx fw bw ln lv cm) (wr := mwA cI cZ h2 r2 v ed tb) F (X_clear l D cI cZ h r1 u.1 u.2.1 u.2.2.1 u.2.2.2.1 hr nx fw bw u.2.2.2.2.1 u.2.2.2.2.2.1 u.2.2.2.2.2.2.1 u.2.2.2.2.2.2.2.1 u.2.2.2.2.2.2.2.2 ln lv cm) (lw_V q123 q124 q125 q20 q126) 0 rfl (by decide +kernel) ⟨Nat.le_of_ble_eq_true rfl, Nat.le_of_ble_eq_true rfl⟩ ⟨rfl, rfl⟩ ⟨Nat.le_of_ble_eq_true rfl, Nat.le_of_ble_eq_true rfl⟩ hK hP hD hS hA [0, 1, 2, 3, 4, 5, 6, 7, 8, 9, 10] [11, 12, 13, 14, 15] rfl rfl (by decide) (by decide) (by decide) 0 0 rfl rfl hl.1 rfl (Nat.le_of_ble_eq_true rfl) dL_law_276 (fun u1 H locs hw1 hP hD hS => ?_)
  have hP : va_P D vwCl (mwA cI cZ h2 r2 v ed tb ++ xwA cI h r1 (0, 0, 0, 0, u.2.2.2.2.1, u.2.2.2.2.2.1, u.2.2.2.2.2.2.1, u.2.2.2.2.2.2.2.1, u.2.2.2.2.2.2.2.2) hr nx fw bw ln lv cm) H := hP
  have hD : va_D (fun q : Nat => s.heap.size ≤ q) (mwA cI cZ h2 r2 v ed tb ++ xwA cI h r1 (0, 0, 0, 0, u.2.2.2.2.1, u.2.2.2.2.2.1, u.2.2.2.2.2.2.1, u.2.2.2.2.2.2.2.1, u.2.2.2.2.2.2.2.2) hr nx fw bw ln lv cm) := hD
  refine lv_aload_n hx hb dL_law_279 rfl (lv_at hl 2 rfl) ?_
  refine cl_vJ (As := []) (rest := []) (C := RX1) (wc := mwA cI cZ h2 r2 v ed tb) (wr := xwA cI h r1 (0, 0, 0, 0, u.2.2.2.2.1, u.2.2.2.2.2.1, u.2.2.2.2.2.2.1, u.2.2.2.2.2.2.2.1, u.2.2.2.2.2.2.2.2) hr nx fw bw ln lv cm) F (M_clear l D cI cZ h2 r2 v.1 v.2.1 ed v.2.2.1 v.2.2.2 tb) (lw_V q248 q249 q250 q21 q251) 0 rfl (by decide +kernel) ⟨Nat.le_of_ble_eq_true rfl, Nat.le_of_ble_eq_true rfl⟩ ⟨rfl, rfl⟩ ⟨Nat.le_of_ble_eq_true rfl, Nat.le_of_ble_eq_true rfl⟩ hK hP hD hS hA [0, 1, 2, 3, 4] [5, 6, 7, 8, 9, 10, 11, 12, 13, 14, 15] rfl rfl (by decide) (by decide) (by decide) 0 1 rfl rfl hl.1 rfl (Nat.le_of_ble_eq_true rfl) dL_law_280 (fun v1 H locs hw2 hP hD hS => ?_)
  
  have hP : va_P D vwCl (xwA cI h r1 (0, 0, 0, 0, u.2.2.2.2.1, u.2.2.2.2.2.1, u.2.2.2.2.2.2.1, u.2.2.2.2.2.2.2.1, u.2.2.2.2.2.2.2.2) hr nx fw bw ln lv cm ++ mwA cI cZ h2 r2 (0, 0, v.2.2.1, v.2.2.2) ed tb) H := hP
  have hD : va_D (fun q : Nat => s.heap.size ≤ q) (xwA cI h r1 (0, 0, 0, 0, u.2.2.2.2.1, u.2.2.2.2.2.1, u.2.2.2.2.2.2.1, u.2.2.2.2.2.2.2.1, u.2.2.2.2.2.2.2.2) hr nx fw bw ln lv cm ++ mwA cI cZ h2 r2 (0, 0, v.2.2.1, v.2.2.2) ed tb) := hD
  refine lv_goto (tgt := 427) hx hb dL_law_283 (by decide) ?_
  exact K (0, 0, 0, 0, u.2.2.2.2.1, u.2.2.2.2.2.1, u.2.2.2.2.2.2.1, u.2.2.2.2.2.2.2.1, u.2.2.2.2.2.2.2.2) (0, 0, v.2.2.1, v.2.2.2) fw bw ed hr nx ln lv cm tb H locs ls hI.clear_ hP hD hS hl
set_option maxHeartbeats 4000000 in
set_option maxRecDepth 100000 in
theorem law_8 {p : Program} {l : Launch} {e : Env} {s : State} {m : MethodId} {below : List Frame} {meth : Method} {c : Code} {D : va_G} {cI cZ : ClassId} {b L i h h2 : Nat} {r1 r2 : Nat → Nat} {xs : Nat → Int32} (hL : L ≤ 256) (C0 : lw_At p s m meth c b L xs) (hi : i + 4 ≤ L) (hK : va_K D vwCl (tyL cI cZ) s)
    (K : lwK p l e s m below meth c D cI cZ b h h2 r1 r2 i 427) : lwK p l e s m below meth c D cI cZ b h h2 r1 r2 i 286 := by
  obtain ⟨hx, hb, hr0, hml, hown, hts0, hX, hbl, hlocks, hgv⟩ := C0
  have hA : ∀ q : Nat, s.heap.size ≤ q → (fun q : Nat => s.heap.size ≤ q) q := fun _ h => h
  have hbA : ¬ (fun q : Nat => s.heap.size ≤ q) b := Nat.not_le.mpr hbl
  have hts : ∀ w ∈ lw_all, w.before #[Value.ref b] s = true := fun w h => hts0 w (lw_all_tbl h)
  have F : CallFix p m c cL_law 4 s #[Value.ref b] lw_all R_law := ⟨hx, hb, hml, hown, hts⟩
  intro u v fw bw ed hr nx ln lv cm tb H locs ls hI hP hD hS hl
  obtain ⟨n1, n2, n3, n4, n5, n6, n7, n8, n9⟩ := hI.bnd
  obtain ⟨G, dv, hXo, hdx, hMo, hdm⟩ := hI.ask
  refine lv_aload_n hx hb dL_law_286 rfl (lv_at hl 1 rfl) ?_
  refine lv_aload_n hx hb dL_law_287 rfl (lv_at hl 0 rfl) ?_
  refine lv_iload_n hx hb dL_law_288 rfl (lv_at hl 3 rfl) ?_
  refine lv_iconst (v := nI 1) hx hb dL_law_289 (by decide) ?_
  refine xr_iadd hx hb dL_law_290 ?_
  refine sx_ld hx hb hX hbl hbA hS (by omega) hL dL_law_291 ?_
  refine lv_aload_n hx hb dL_law_292 rfl (lv_at hl 0 rfl) ?_
  refine lv_iload_n hx hb dL_law_293 rfl (lv_at hl 3 rfl) ?_
  refine lv_iconst (v := nI 2) hx hb dL_law_294 (by decide) ?_
  refine xr_iadd hx hb dL_law_295 ?_
  refine sx_ld hx hb hX hbl hbA hS (by omega) hL dL_law_296 ?_
  refine cl_iJ (As := [.int (xs (i + 1)), .int (xs (i + 2))]) (rest := []) (C := RX0) (wc := xwA cI h r1 u hr nx fw bw ln lv cm) (wr := mwA cI cZ h2 r2 v ed tb) F (X_leads l D cI cZ h r1 u.1 u.2.1 u.2.2.1 u.2.2.2.1 hr nx fw bw u.2.2.2.2.1 u.2.2.2.2.2.1 u.2.2.2.2.2.2.1 u.2.2.2.2.2.2.2.1 u.2.2.2.2.2.2.2.2 ln lv cm G dv hXo hdx (xs (i + 1)) (xs (i + 2))) (lw_V q127 q128 q129 q20 q130) 2 rfl (by decide +kernel) ⟨Nat.le_of_ble_eq_true rfl, Nat.le_of_ble_eq_true rfl⟩ ⟨rfl, rfl⟩ ⟨Nat.le_of_ble_eq_true rfl, Nat.le_of_ble_eq_true rfl⟩ hK hP hD hS hA [0, 1, 2, 3, 4, 5, 6, 7, 8, 9, 10] [11, 12, 13, 14, 15] rfl rfl (by decide) (by decide) (by decide) 0 0 rfl rfl hl.1 rfl (Nat.le_of_ble_eq_true rfl) dL_law_297 (fun x1 u1 H locs hw1 hP hD hS => ?_)
  obtain ⟨hr1, nx1, ln1, lv1, cm1⟩ := u1
  have hP : va_P D vwCl (mwA cI cZ h2 r2 v ed tb ++ xwA cI h r1 u hr1 nx1 fw bw ln1 lv1 cm1) H := hP
  have hD : va_D (fun q : Nat => s.heap.size ≤ q) (mwA cI cZ h2 r2 v ed tb ++ xwA cI h r1 u hr1 nx1 fw bw ln1 lv1 cm1) := hD
  refine lv_aload_n hx hb dL_law_300 rfl (lv_at hl 2 rfl) ?_
  refine lv_aload_n hx hb dL_law_301 rfl (lv_at hl 0 rfl) ?_
  refine lv_iload_n hx hb dL_law_302 rfl (lv_at hl 3 rfl) ?_
  refine lv_iconst (v := nI 1) hx hb dL_law_303 (by decide) ?_
  refine xr_iadd hx hb dL_law_304 ?_
  refine sx_ld hx hb hX hbl hbA hS (by omega) hL dL_law_305 ?_
  refine lv_aload_n hx hb dL_law_306 rfl (lv_at hl 0 rfl) ?_
  refine lv_iload_n hx hb dL_law_307 rfl (lv_at hl 3 rfl) ?_
  refine lv_iconst (v := nI 2) hx hb dL_law_308 (by decide) ?_
  refine xr_iadd hx hb dL_law_309 ?_
  refine sx_ld hx hb hX hbl hbA hS (by omega) hL dL_law_310 ?_
  refine cl_iJ (As := [.int (xs (i + 1)), .int (xs (i + 2))]) (rest := [.int x1]) (C := RX1) (wc := mwA cI cZ h2 r2 v ed tb) (wr := xwA cI h r1 u hr1 nx1 fw bw ln1 lv1 cm1) F (M_leads l D cI cZ h2 r2 v.1 v.2.1 ed v.2.2.1 v.2.2.2 tb G dv hMo hdm (xs (i + 1)) (xs (i + 2))) (lw_V q252 q253 q254 q21 q255) 2 rfl (by decide +kernel) ⟨Nat.le_of_ble_eq_true rfl, Nat.le_of_ble_eq_true rfl⟩ ⟨rfl, rfl⟩ ⟨Nat.le_of_ble_eq_true rfl, Nat.le_of_ble_eq_true rfl⟩ hK hP hD hS hA [0, 1, 2, 3, 4] [5, 6, 7, 8, 9, 10, 11, 12, 13, 14, 15] rfl rfl (by decide) (by decide) (by decide) 0 1 rfl rfl hl.1 rfl (Nat.le_of_ble_eq_true rfl) dL_law_311 (fun x2 v1 H locs hw2 hP hD hS => ?_)
  
  have hP : va_P D vwCl (xwA cI h r1 u hr1 nx1 fw bw ln1 lv1 cm1 ++ mwA cI cZ h2 r2 v ed v1) H := hP
  have hD : va_D (fun q : Nat => s.heap.size ≤ q) (xwA cI h r1 u hr1 nx1 fw bw ln1 lv1 cm1 ++ mwA cI cZ h2 r2 v ed v1) := hD
  refine lv_icmp_eq (tgt := 427) hx hb dL_law_314 (by decide) (fun c314 => ?_) (fun c314 => ?_)
  · exact K u v fw bw ed hr1 nx1 ln1 lv1 cm1 v1 H locs ls hI hP hD hS hl
  · exact absurd (hw1.trans hw2.symm) c314
set_option maxHeartbeats 4000000 in
set_option maxRecDepth 100000 in
theorem law_9 {p : Program} {l : Launch} {e : Env} {s : State} {m : MethodId} {below : List Frame} {meth : Method} {c : Code} {D : va_G} {cI cZ : ClassId} {b L i h h2 : Nat} {r1 r2 : Nat → Nat} {xs : Nat → Int32} (hL : L ≤ 256) (C0 : lw_At p s m meth c b L xs) (hi : i + 4 ≤ L) (hK : va_K D vwCl (tyL cI cZ) s)
    (K : lwK p l e s m below meth c D cI cZ b h h2 r1 r2 i 427) : lwK p l e s m below meth c D cI cZ b h h2 r1 r2 i 319 := by
  obtain ⟨hx, hb, hr0, hml, hown, hts0, hX, hbl, hlocks, hgv⟩ := C0
  have hA : ∀ q : Nat, s.heap.size ≤ q → (fun q : Nat => s.heap.size ≤ q) q := fun _ h => h
  have hbA : ¬ (fun q : Nat => s.heap.size ≤ q) b := Nat.not_le.mpr hbl
  have hts : ∀ w ∈ lw_all, w.before #[Value.ref b] s = true := fun w h => hts0 w (lw_all_tbl h)
  have F : CallFix p m c cL_law 4 s #[Value.ref b] lw_all R_law := ⟨hx, hb, hml, hown, hts⟩
  intro u v fw bw ed hr nx ln lv cm tb H locs ls hI hP hD hS hl
  obtain ⟨n1, n2, n3, n4, n5, n6, n7, n8, n9⟩ := hI.bnd
  obtain ⟨G, dv, hXo, hdx, hMo, hdm⟩ := hI.ask
  refine lv_aload_n hx hb dL_law_319 rfl (lv_at hl 1 rfl) ?_
  refine lv_aload_n hx hb dL_law_320 rfl (lv_at hl 0 rfl) ?_
  refine lv_iload_n hx hb dL_law_321 rfl (lv_at hl 3 rfl) ?_
  refine lv_iconst (v := nI 1) hx hb dL_law_322 (by decide) ?_
  refine xr_iadd hx hb dL_law_323 ?_
  refine sx_ld hx hb hX hbl hbA hS (by omega) hL dL_law_324 ?_
  refine lv_aload_n hx hb dL_law_325 rfl (lv_at hl 0 rfl) ?_
  refine lv_iload_n hx hb dL_law_326 rfl (lv_at hl 3 rfl) ?_
  refine lv_iconst (v := nI 2) hx hb dL_law_327 (by decide) ?_
  refine xr_iadd hx hb dL_law_328 ?_
  refine sx_ld hx hb hX hbl hbA hS (by omega) hL dL_law_329 ?_
  refine cl_iJ (As := [.int (xs (i + 1)), .int (xs (i + 2))]) (rest := []) (C := RX0) (wc := xwA cI h r1 u hr nx fw bw ln lv cm) (wr := mwA cI cZ h2 r2 v ed tb) F (X_shortest l D cI cZ h r1 u.1 u.2.1 u.2.2.1 u.2.2.2.1 hr nx fw bw u.2.2.2.2.1 u.2.2.2.2.2.1 u.2.2.2.2.2.2.1 u.2.2.2.2.2.2.2.1 u.2.2.2.2.2.2.2.2 ln lv cm G dv hXo hdx (xs (i + 1)) (xs (i + 2))) (lw_V q162 q163 q164 q20 q165) 2 rfl (by decide +kernel) ⟨Nat.le_of_ble_eq_true rfl, Nat.le_of_ble_eq_true rfl⟩ ⟨rfl, rfl⟩ ⟨Nat.le_of_ble_eq_true rfl, Nat.le_of_ble_eq_true rfl⟩ hK hP hD hS hA [0, 1, 2, 3, 4, 5, 6, 7, 8, 9, 10] [11, 12, 13, 14, 15] rfl rfl (by decide) (by decide) (by decide) 0 0 rfl rfl hl.1 rfl (Nat.le_of_ble_eq_true rfl) dL_law_330 (fun x1 u1 H locs hw1 hP hD hS => ?_)
  obtain ⟨hr1, nx1, ln1, lv1, cm1⟩ := u1
  have hP : va_P D vwCl (mwA cI cZ h2 r2 v ed tb ++ xwA cI h r1 u hr1 nx1 fw bw ln1 lv1 cm1) H := hP
  have hD : va_D (fun q : Nat => s.heap.size ≤ q) (mwA cI cZ h2 r2 v ed tb ++ xwA cI h r1 u hr1 nx1 fw bw ln1 lv1 cm1) := hD
  refine lv_aload_n hx hb dL_law_333 rfl (lv_at hl 2 rfl) ?_
  refine lv_aload_n hx hb dL_law_334 rfl (lv_at hl 0 rfl) ?_
  refine lv_iload_n hx hb dL_law_335 rfl (lv_at hl 3 rfl) ?_
  refine lv_iconst (v := nI 1) hx hb dL_law_336 (by decide) ?_
  refine xr_iadd hx hb dL_law_337 ?_
  refine sx_ld hx hb hX hbl hbA hS (by omega) hL dL_law_338 ?_
  refine lv_aload_n hx hb dL_law_339 rfl (lv_at hl 0 rfl) ?_
  refine lv_iload_n hx hb dL_law_340 rfl (lv_at hl 3 rfl) ?_
  refine lv_iconst (v := nI 2) hx hb dL_law_341 (by decide) ?_
  refine xr_iadd hx hb dL_law_342 ?_
  refine sx_ld hx hb hX hbl hbA hS (by omega) hL dL_law_343 ?_
  refine cl_iJ (As := [.int (xs (i + 1)), .int (xs (i + 2))]) (rest := [.int x1]) (C := RX1) (wc := mwA cI cZ h2 r2 v ed tb) (wr := xwA cI h r1 u hr1 nx1 fw bw ln1 lv1 cm1) F (M_shortest l D cI cZ h2 r2 v.1 v.2.1 ed v.2.2.1 v.2.2.2 tb G dv hMo hdm (xs (i + 1)) (xs (i + 2))) (lw_V q285 q286 q287 q21 q288) 2 rfl (by decide +kernel) ⟨Nat.le_of_ble_eq_true rfl, Nat.le_of_ble_eq_true rfl⟩ ⟨rfl, rfl⟩ ⟨Nat.le_of_ble_eq_true rfl, Nat.le_of_ble_eq_true rfl⟩ hK hP hD hS hA [0, 1, 2, 3, 4] [5, 6, 7, 8, 9, 10, 11, 12, 13, 14, 15] rfl rfl (by decide) (by decide) (by decide) 0 1 rfl rfl hl.1 rfl (Nat.le_of_ble_eq_true rfl) dL_law_344 (fun x2 v1 H locs hw2 hP hD hS => ?_)
  
  have hP : va_P D vwCl (xwA cI h r1 u hr1 nx1 fw bw ln1 lv1 cm1 ++ mwA cI cZ h2 r2 v ed v1) H := hP
  have hD : va_D (fun q : Nat => s.heap.size ≤ q) (xwA cI h r1 u hr1 nx1 fw bw ln1 lv1 cm1 ++ mwA cI cZ h2 r2 v ed v1) := hD
  refine lv_icmp_eq (tgt := 427) hx hb dL_law_347 (by decide) (fun c347 => ?_) (fun c347 => ?_)
  · exact K u v fw bw ed hr1 nx1 ln1 lv1 cm1 v1 H locs ls hI hP hD hS hl
  · exact absurd (hw1.trans hw2.symm) c347
set_option maxHeartbeats 4000000 in
set_option maxRecDepth 100000 in
theorem law_10 {p : Program} {l : Launch} {e : Env} {s : State} {m : MethodId} {below : List Frame} {meth : Method} {c : Code} {D : va_G} {cI cZ : ClassId} {b L i h h2 : Nat} {r1 r2 : Nat → Nat} {xs : Nat → Int32} (hL : L ≤ 256) (C0 : lw_At p s m meth c b L xs) (hi : i + 4 ≤ L) (hK : va_K D vwCl (tyL cI cZ) s)
    (K : lwK p l e s m below meth c D cI cZ b h h2 r1 r2 i 427) : lwK p l e s m below meth c D cI cZ b h h2 r1 r2 i 352 := by
  obtain ⟨hx, hb, hr0, hml, hown, hts0, hX, hbl, hlocks, hgv⟩ := C0
  have hA : ∀ q : Nat, s.heap.size ≤ q → (fun q : Nat => s.heap.size ≤ q) q := fun _ h => h
  have hbA : ¬ (fun q : Nat => s.heap.size ≤ q) b := Nat.not_le.mpr hbl
  have hts : ∀ w ∈ lw_all, w.before #[Value.ref b] s = true := fun w h => hts0 w (lw_all_tbl h)
  have F : CallFix p m c cL_law 4 s #[Value.ref b] lw_all R_law := ⟨hx, hb, hml, hown, hts⟩
  intro u v fw bw ed hr nx ln lv cm tb H locs ls hI hP hD hS hl
  obtain ⟨n1, n2, n3, n4, n5, n6, n7, n8, n9⟩ := hI.bnd
  obtain ⟨G, dv, hXo, hdx, hMo, hdm⟩ := hI.ask
  refine lv_aload_n hx hb dL_law_352 rfl (lv_at hl 1 rfl) ?_
  refine lv_aload_n hx hb dL_law_353 rfl (lv_at hl 0 rfl) ?_
  refine lv_iload_n hx hb dL_law_354 rfl (lv_at hl 3 rfl) ?_
  refine lv_iconst (v := nI 1) hx hb dL_law_355 (by decide) ?_
  refine xr_iadd hx hb dL_law_356 ?_
  refine sx_ld hx hb hX hbl hbA hS (by omega) hL dL_law_357 ?_
  refine cl_iJ (As := [.int (xs (i + 1))]) (rest := []) (C := RX0) (wc := xwA cI h r1 u hr nx fw bw ln lv cm) (wr := mwA cI cZ h2 r2 v ed tb) F (X_reach l D cI cZ h r1 u.1 u.2.1 u.2.2.1 u.2.2.2.1 hr nx fw bw u.2.2.2.2.1 u.2.2.2.2.2.1 u.2.2.2.2.2.2.1 u.2.2.2.2.2.2.2.1 u.2.2.2.2.2.2.2.2 ln lv cm G dv hXo hdx (xs (i + 1))) (lw_V q166 q167 q168 q20 q169) 1 rfl (by decide +kernel) ⟨Nat.le_of_ble_eq_true rfl, Nat.le_of_ble_eq_true rfl⟩ ⟨rfl, rfl⟩ ⟨Nat.le_of_ble_eq_true rfl, Nat.le_of_ble_eq_true rfl⟩ hK hP hD hS hA [0, 1, 2, 3, 4, 5, 6, 7, 8, 9, 10] [11, 12, 13, 14, 15] rfl rfl (by decide) (by decide) (by decide) 0 0 rfl rfl hl.1 rfl (Nat.le_of_ble_eq_true rfl) dL_law_358 (fun x1 u1 H locs hw1 hP hD hS => ?_)
  obtain ⟨hr1, nx1, ln1, lv1, cm1⟩ := u1
  have hP : va_P D vwCl (mwA cI cZ h2 r2 v ed tb ++ xwA cI h r1 u hr1 nx1 fw bw ln1 lv1 cm1) H := hP
  have hD : va_D (fun q : Nat => s.heap.size ≤ q) (mwA cI cZ h2 r2 v ed tb ++ xwA cI h r1 u hr1 nx1 fw bw ln1 lv1 cm1) := hD
  refine lv_aload_n hx hb dL_law_361 rfl (lv_at hl 2 rfl) ?_
  refine lv_aload_n hx hb dL_law_362 rfl (lv_at hl 0 rfl) ?_
  refine lv_iload_n hx hb dL_law_363 rfl (lv_at hl 3 rfl) ?_
  refine lv_iconst (v := nI 1) hx hb dL_law_364 (by decide) ?_
  refine xr_iadd hx hb dL_law_365 ?_
  refine sx_ld hx hb hX hbl hbA hS (by omega) hL dL_law_366 ?_
  refine cl_iJ (As := [.int (xs (i + 1))]) (rest := [.int x1]) (C := RX1) (wc := mwA cI cZ h2 r2 v ed tb) (wr := xwA cI h r1 u hr1 nx1 fw bw ln1 lv1 cm1) F (M_reach l D cI cZ h2 r2 v.1 v.2.1 ed v.2.2.1 v.2.2.2 tb G dv hMo hdm (xs (i + 1))) (lw_V q289 q290 q291 q21 q292) 1 rfl (by decide +kernel) ⟨Nat.le_of_ble_eq_true rfl, Nat.le_of_ble_eq_true rfl⟩ ⟨rfl, rfl⟩ ⟨Nat.le_of_ble_eq_true rfl, Nat.le_of_ble_eq_true rfl⟩ hK hP hD hS hA [0, 1, 2, 3, 4] [5, 6, 7, 8, 9, 10, 11, 12, 13, 14, 15] rfl rfl (by decide) (by decide) (by decide) 0 1 rfl rfl hl.1 rfl (Nat.le_of_ble_eq_true rfl) dL_law_367 (fun x2 v1 H locs hw2 hP hD hS => ?_)
  
  have hP : va_P D vwCl (xwA cI h r1 u hr1 nx1 fw bw ln1 lv1 cm1 ++ mwA cI cZ h2 r2 v ed v1) H := hP
  have hD : va_D (fun q : Nat => s.heap.size ≤ q) (xwA cI h r1 u hr1 nx1 fw bw ln1 lv1 cm1 ++ mwA cI cZ h2 r2 v ed v1) := hD
  refine lv_icmp_eq (tgt := 427) hx hb dL_law_370 (by decide) (fun c370 => ?_) (fun c370 => ?_)
  · exact K u v fw bw ed hr1 nx1 ln1 lv1 cm1 v1 H locs ls hI hP hD hS hl
  · exact absurd (hw1.trans hw2.symm) c370
set_option maxHeartbeats 4000000 in
set_option maxRecDepth 100000 in
theorem law_11 {p : Program} {l : Launch} {e : Env} {s : State} {m : MethodId} {below : List Frame} {meth : Method} {c : Code} {D : va_G} {cI cZ : ClassId} {b L i h h2 : Nat} {r1 r2 : Nat → Nat} {xs : Nat → Int32} (hL : L ≤ 256) (C0 : lw_At p s m meth c b L xs) (hi : i + 4 ≤ L) (hK : va_K D vwCl (tyL cI cZ) s)
    (K : lwK p l e s m below meth c D cI cZ b h h2 r1 r2 i 427) : lwK p l e s m below meth c D cI cZ b h h2 r1 r2 i 375 := by
  obtain ⟨hx, hb, hr0, hml, hown, hts0, hX, hbl, hlocks, hgv⟩ := C0
  have hA : ∀ q : Nat, s.heap.size ≤ q → (fun q : Nat => s.heap.size ≤ q) q := fun _ h => h
  have hbA : ¬ (fun q : Nat => s.heap.size ≤ q) b := Nat.not_le.mpr hbl
  have hts : ∀ w ∈ lw_all, w.before #[Value.ref b] s = true := fun w h => hts0 w (lw_all_tbl h)
  have F : CallFix p m c cL_law 4 s #[Value.ref b] lw_all R_law := ⟨hx, hb, hml, hown, hts⟩
  intro u v fw bw ed hr nx ln lv cm tb H locs ls hI hP hD hS hl
  obtain ⟨n1, n2, n3, n4, n5, n6, n7, n8, n9⟩ := hI.bnd
  obtain ⟨G, dv, hXo, hdx, hMo, hdm⟩ := hI.ask
  refine lv_aload_n hx hb dL_law_375 rfl (lv_at hl 1 rfl) ?_
  refine cl_iJ (As := []) (rest := []) (C := RX0) (wc := xwA cI h r1 u hr nx fw bw ln lv cm) (wr := mwA cI cZ h2 r2 v ed tb) F (X_pairs l D cI cZ h r1 u.1 u.2.1 u.2.2.1 u.2.2.2.1 hr nx fw bw u.2.2.2.2.1 u.2.2.2.2.2.1 u.2.2.2.2.2.2.1 u.2.2.2.2.2.2.2.1 u.2.2.2.2.2.2.2.2 ln lv cm G dv hXo hdx ) (lw_V q174 q175 q176 q20 q177) 0 rfl (by decide +kernel) ⟨Nat.le_of_ble_eq_true rfl, Nat.le_of_ble_eq_true rfl⟩ ⟨rfl, rfl⟩ ⟨Nat.le_of_ble_eq_true rfl, Nat.le_of_ble_eq_true rfl⟩ hK hP hD hS hA [0, 1, 2, 3, 4, 5, 6, 7, 8, 9, 10] [11, 12, 13, 14, 15] rfl rfl (by decide) (by decide) (by decide) 0 0 rfl rfl hl.1 rfl (Nat.le_of_ble_eq_true rfl) dL_law_376 (fun x1 u1 H locs hw1 hP hD hS => ?_)
  obtain ⟨hr1, nx1, ln1, lv1, cm1⟩ := u1
  have hP : va_P D vwCl (mwA cI cZ h2 r2 v ed tb ++ xwA cI h r1 u hr1 nx1 fw bw ln1 lv1 cm1) H := hP
  have hD : va_D (fun q : Nat => s.heap.size ≤ q) (mwA cI cZ h2 r2 v ed tb ++ xwA cI h r1 u hr1 nx1 fw bw ln1 lv1 cm1) := hD
  refine lv_aload_n hx hb dL_law_379 rfl (lv_at hl 2 rfl) ?_
  refine cl_iJ (As := []) (rest := [.int x1]) (C := RX1) (wc := mwA cI cZ h2 r2 v ed tb) (wr := xwA cI h r1 u hr1 nx1 fw bw ln1 lv1 cm1) F (M_pairs l D cI cZ h2 r2 v.1 v.2.1 ed v.2.2.1 v.2.2.2 tb G dv hMo hdm ) (lw_V q293 q294 q295 q21 q296) 0 rfl (by decide +kernel) ⟨Nat.le_of_ble_eq_true rfl, Nat.le_of_ble_eq_true rfl⟩ ⟨rfl, rfl⟩ ⟨Nat.le_of_ble_eq_true rfl, Nat.le_of_ble_eq_true rfl⟩ hK hP hD hS hA [0, 1, 2, 3, 4] [5, 6, 7, 8, 9, 10, 11, 12, 13, 14, 15] rfl rfl (by decide) (by decide) (by decide) 0 1 rfl rfl hl.1 rfl (Nat.le_of_ble_eq_true rfl) dL_law_380 (fun x2 v1 H locs hw2 hP hD hS => ?_)
  
  have hP : va_P D vwCl (xwA cI h r1 u hr1 nx1 fw bw ln1 lv1 cm1 ++ mwA cI cZ h2 r2 v ed v1) H := hP
  have hD : va_D (fun q : Nat => s.heap.size ≤ q) (xwA cI h r1 u hr1 nx1 fw bw ln1 lv1 cm1 ++ mwA cI cZ h2 r2 v ed v1) := hD
  refine lv_icmp_eq (tgt := 427) hx hb dL_law_383 (by decide) (fun c383 => ?_) (fun c383 => ?_)
  · exact K u v fw bw ed hr1 nx1 ln1 lv1 cm1 v1 H locs ls hI hP hD hS hl
  · exact absurd (hw1.trans hw2.symm) c383
set_option maxHeartbeats 4000000 in
set_option maxRecDepth 100000 in
theorem law_12 {p : Program} {l : Launch} {e : Env} {s : State} {m : MethodId} {below : List Frame} {meth : Method} {c : Code} {D : va_G} {cI cZ : ClassId} {b L i h h2 : Nat} {r1 r2 : Nat → Nat} {xs : Nat → Int32} (hL : L ≤ 256) (C0 : lw_At p s m meth c b L xs) (hi : i + 4 ≤ L) (hK : va_K D vwCl (tyL cI cZ) s)
    (K : lwK p l e s m below meth c D cI cZ b h h2 r1 r2 i 427) : lwK p l e s m below meth c D cI cZ b h h2 r1 r2 i 388 := by
  obtain ⟨hx, hb, hr0, hml, hown, hts0, hX, hbl, hlocks, hgv⟩ := C0
  have hA : ∀ q : Nat, s.heap.size ≤ q → (fun q : Nat => s.heap.size ≤ q) q := fun _ h => h
  have hbA : ¬ (fun q : Nat => s.heap.size ≤ q) b := Nat.not_le.mpr hbl
  have hts : ∀ w ∈ lw_all, w.before #[Value.ref b] s = true := fun w h => hts0 w (lw_all_tbl h)
  have F : CallFix p m c cL_law 4 s #[Value.ref b] lw_all R_law := ⟨hx, hb, hml, hown, hts⟩
  intro u v fw bw ed hr nx ln lv cm tb H locs ls hI hP hD hS hl
  obtain ⟨n1, n2, n3, n4, n5, n6, n7, n8, n9⟩ := hI.bnd
  obtain ⟨G, dv, hXo, hdx, hMo, hdm⟩ := hI.ask
  refine lv_aload_n hx hb dL_law_388 rfl (lv_at hl 1 rfl) ?_
  refine cl_iJ (As := []) (rest := []) (C := RX0) (wc := xwA cI h r1 u hr nx fw bw ln lv cm) (wr := mwA cI cZ h2 r2 v ed tb) F (X_loops l D cI cZ h r1 u.1 u.2.1 u.2.2.1 u.2.2.2.1 hr nx fw bw u.2.2.2.2.1 u.2.2.2.2.2.1 u.2.2.2.2.2.2.1 u.2.2.2.2.2.2.2.1 u.2.2.2.2.2.2.2.2 ln lv cm G dv hXo hdx ) (lw_V q178 q179 q180 q20 q181) 0 rfl (by decide +kernel) ⟨Nat.le_of_ble_eq_true rfl, Nat.le_of_ble_eq_true rfl⟩ ⟨rfl, rfl⟩ ⟨Nat.le_of_ble_eq_true rfl, Nat.le_of_ble_eq_true rfl⟩ hK hP hD hS hA [0, 1, 2, 3, 4, 5, 6, 7, 8, 9, 10] [11, 12, 13, 14, 15] rfl rfl (by decide) (by decide) (by decide) 0 0 rfl rfl hl.1 rfl (Nat.le_of_ble_eq_true rfl) dL_law_389 (fun x1 u1 H locs hw1 hP hD hS => ?_)
  obtain ⟨hr1, nx1, ln1, lv1, cm1⟩ := u1
  have hP : va_P D vwCl (mwA cI cZ h2 r2 v ed tb ++ xwA cI h r1 u hr1 nx1 fw bw ln1 lv1 cm1) H := hP
  have hD : va_D (fun q : Nat => s.heap.size ≤ q) (mwA cI cZ h2 r2 v ed tb ++ xwA cI h r1 u hr1 nx1 fw bw ln1 lv1 cm1) := hD
  refine lv_aload_n hx hb dL_law_392 rfl (lv_at hl 2 rfl) ?_
  refine cl_iJ (As := []) (rest := [.int x1]) (C := RX1) (wc := mwA cI cZ h2 r2 v ed tb) (wr := xwA cI h r1 u hr1 nx1 fw bw ln1 lv1 cm1) F (M_loops l D cI cZ h2 r2 v.1 v.2.1 ed v.2.2.1 v.2.2.2 tb G dv hMo hdm ) (lw_V q297 q298 q299 q21 q300) 0 rfl (by decide +kernel) ⟨Nat.le_of_ble_eq_true rfl, Nat.le_of_ble_eq_true rfl⟩ ⟨rfl, rfl⟩ ⟨Nat.le_of_ble_eq_true rfl, Nat.le_of_ble_eq_true rfl⟩ hK hP hD hS hA [0, 1, 2, 3, 4] [5, 6, 7, 8, 9, 10, 11, 12, 13, 14, 15] rfl rfl (by decide) (by decide) (by decide) 0 1 rfl rfl hl.1 rfl (Nat.le_of_ble_eq_true rfl) dL_law_393 (fun x2 v1 H locs hw2 hP hD hS => ?_)
  
  have hP : va_P D vwCl (xwA cI h r1 u hr1 nx1 fw bw ln1 lv1 cm1 ++ mwA cI cZ h2 r2 v ed v1) H := hP
  have hD : va_D (fun q : Nat => s.heap.size ≤ q) (xwA cI h r1 u hr1 nx1 fw bw ln1 lv1 cm1 ++ mwA cI cZ h2 r2 v ed v1) := hD
  refine lv_icmp_eq (tgt := 427) hx hb dL_law_396 (by decide) (fun c396 => ?_) (fun c396 => ?_)
  · exact K u v fw bw ed hr1 nx1 ln1 lv1 cm1 v1 H locs ls hI hP hD hS hl
  · exact absurd (hw1.trans hw2.symm) c396
set_option maxHeartbeats 4000000 in
set_option maxRecDepth 100000 in
theorem law_13 {p : Program} {l : Launch} {e : Env} {s : State} {m : MethodId} {below : List Frame} {meth : Method} {c : Code} {D : va_G} {cI cZ : ClassId} {b L i h h2 : Nat} {r1 r2 : Nat → Nat} {xs : Nat → Int32} (hL : L ≤ 256) (C0 : lw_At p s m meth c b L xs) (hi : i + 4 ≤ L) (hK : va_K D vwCl (tyL cI cZ) s)
    (K : lwK p l e s m below meth c D cI cZ b h h2 r1 r2 i 427) : lwK p l e s m below meth c D cI cZ b h h2 r1 r2 i 401 := by
  obtain ⟨hx, hb, hr0, hml, hown, hts0, hX, hbl, hlocks, hgv⟩ := C0
  have hA : ∀ q : Nat, s.heap.size ≤ q → (fun q : Nat => s.heap.size ≤ q) q := fun _ h => h
  have hbA : ¬ (fun q : Nat => s.heap.size ≤ q) b := Nat.not_le.mpr hbl
  have hts : ∀ w ∈ lw_all, w.before #[Value.ref b] s = true := fun w h => hts0 w (lw_all_tbl h)
  have F : CallFix p m c cL_law 4 s #[Value.ref b] lw_all R_law := ⟨hx, hb, hml, hown, hts⟩
  intro u v fw bw ed hr nx ln lv cm tb H locs ls hI hP hD hS hl
  obtain ⟨n1, n2, n3, n4, n5, n6, n7, n8, n9⟩ := hI.bnd
  obtain ⟨G, dv, hXo, hdx, hMo, hdm⟩ := hI.ask
  refine lv_aload_n hx hb dL_law_401 rfl (lv_at hl 1 rfl) ?_
  refine cl_iJ (As := []) (rest := []) (C := RX0) (wc := xwA cI h r1 u hr nx fw bw ln lv cm) (wr := mwA cI cZ h2 r2 v ed tb) F (X_widest l D cI cZ h r1 u.1 u.2.1 u.2.2.1 u.2.2.2.1 hr nx fw bw u.2.2.2.2.1 u.2.2.2.2.2.1 u.2.2.2.2.2.2.1 u.2.2.2.2.2.2.2.1 u.2.2.2.2.2.2.2.2 ln lv cm G dv hXo hdx ) (lw_V q182 q183 q184 q20 q185) 0 rfl (by decide +kernel) ⟨Nat.le_of_ble_eq_true rfl, Nat.le_of_ble_eq_true rfl⟩ ⟨rfl, rfl⟩ ⟨Nat.le_of_ble_eq_true rfl, Nat.le_of_ble_eq_true rfl⟩ hK hP hD hS hA [0, 1, 2, 3, 4, 5, 6, 7, 8, 9, 10] [11, 12, 13, 14, 15] rfl rfl (by decide) (by decide) (by decide) 0 0 rfl rfl hl.1 rfl (Nat.le_of_ble_eq_true rfl) dL_law_402 (fun x1 u1 H locs hw1 hP hD hS => ?_)
  obtain ⟨hr1, nx1, ln1, lv1, cm1⟩ := u1
  have hP : va_P D vwCl (mwA cI cZ h2 r2 v ed tb ++ xwA cI h r1 u hr1 nx1 fw bw ln1 lv1 cm1) H := hP
  have hD : va_D (fun q : Nat => s.heap.size ≤ q) (mwA cI cZ h2 r2 v ed tb ++ xwA cI h r1 u hr1 nx1 fw bw ln1 lv1 cm1) := hD
  refine lv_aload_n hx hb dL_law_405 rfl (lv_at hl 2 rfl) ?_
  refine cl_iJ (As := []) (rest := [.int x1]) (C := RX1) (wc := mwA cI cZ h2 r2 v ed tb) (wr := xwA cI h r1 u hr1 nx1 fw bw ln1 lv1 cm1) F (M_widest l D cI cZ h2 r2 v.1 v.2.1 ed v.2.2.1 v.2.2.2 tb G dv hMo hdm ) (lw_V q301 q302 q303 q21 q304) 0 rfl (by decide +kernel) ⟨Nat.le_of_ble_eq_true rfl, Nat.le_of_ble_eq_true rfl⟩ ⟨rfl, rfl⟩ ⟨Nat.le_of_ble_eq_true rfl, Nat.le_of_ble_eq_true rfl⟩ hK hP hD hS hA [0, 1, 2, 3, 4] [5, 6, 7, 8, 9, 10, 11, 12, 13, 14, 15] rfl rfl (by decide) (by decide) (by decide) 0 1 rfl rfl hl.1 rfl (Nat.le_of_ble_eq_true rfl) dL_law_406 (fun x2 v1 H locs hw2 hP hD hS => ?_)
  
  have hP : va_P D vwCl (xwA cI h r1 u hr1 nx1 fw bw ln1 lv1 cm1 ++ mwA cI cZ h2 r2 v ed v1) H := hP
  have hD : va_D (fun q : Nat => s.heap.size ≤ q) (xwA cI h r1 u hr1 nx1 fw bw ln1 lv1 cm1 ++ mwA cI cZ h2 r2 v ed v1) := hD
  refine lv_icmp_eq (tgt := 427) hx hb dL_law_409 (by decide) (fun c409 => ?_) (fun c409 => ?_)
  · exact K u v fw bw ed hr1 nx1 ln1 lv1 cm1 v1 H locs ls hI hP hD hS hl
  · exact absurd (hw1.trans hw2.symm) c409
set_option maxHeartbeats 4000000 in
set_option maxRecDepth 100000 in
theorem law_14 {p : Program} {l : Launch} {e : Env} {s : State} {m : MethodId} {below : List Frame} {meth : Method} {c : Code} {D : va_G} {cI cZ : ClassId} {b L i h h2 : Nat} {r1 r2 : Nat → Nat} {xs : Nat → Int32} (hL : L ≤ 256) (C0 : lw_At p s m meth c b L xs) (hi : i + 4 ≤ L) (hK : va_K D vwCl (tyL cI cZ) s)
    (K : lwK p l e s m below meth c D cI cZ b h h2 r1 r2 i 427) : lwK p l e s m below meth c D cI cZ b h h2 r1 r2 i 414 := by
  obtain ⟨hx, hb, hr0, hml, hown, hts0, hX, hbl, hlocks, hgv⟩ := C0
  have hA : ∀ q : Nat, s.heap.size ≤ q → (fun q : Nat => s.heap.size ≤ q) q := fun _ h => h
  have hbA : ¬ (fun q : Nat => s.heap.size ≤ q) b := Nat.not_le.mpr hbl
  have hts : ∀ w ∈ lw_all, w.before #[Value.ref b] s = true := fun w h => hts0 w (lw_all_tbl h)
  have F : CallFix p m c cL_law 4 s #[Value.ref b] lw_all R_law := ⟨hx, hb, hml, hown, hts⟩
  intro u v fw bw ed hr nx ln lv cm tb H locs ls hI hP hD hS hl
  obtain ⟨n1, n2, n3, n4, n5, n6, n7, n8, n9⟩ := hI.bnd
  refine lv_aload_n hx hb dL_law_414 rfl (lv_at hl 1 rfl) ?_
  refine cl_iJ (As := []) (rest := []) (C := RX0) (wc := xwA cI h r1 u hr nx fw bw ln lv cm) (wr := mwA cI cZ h2 r2 v ed tb) F (X_steps l D cI cZ h r1 u.1 u.2.1 u.2.2.1 u.2.2.2.1 hr nx fw bw u.2.2.2.2.1 u.2.2.2.2.2.1 u.2.2.2.2.2.2.1 u.2.2.2.2.2.2.2.1 u.2.2.2.2.2.2.2.2 ln lv cm) (lw_V q186 q187 q188 q20 q189) 0 rfl (by decide +kernel) ⟨Nat.le_of_ble_eq_true rfl, Nat.le_of_ble_eq_true rfl⟩ ⟨rfl, rfl⟩ ⟨Nat.le_of_ble_eq_true rfl, Nat.le_of_ble_eq_true rfl⟩ hK hP hD hS hA [0, 1, 2, 3, 4, 5, 6, 7, 8, 9, 10] [11, 12, 13, 14, 15] rfl rfl (by decide) (by decide) (by decide) 0 0 rfl rfl hl.1 rfl (Nat.le_of_ble_eq_true rfl) dL_law_415 (fun x1 u1 H locs hw1 hP hD hS => ?_)
  have hP : va_P D vwCl (mwA cI cZ h2 r2 v ed tb ++ xwA cI h r1 u hr nx fw bw ln lv cm) H := hP
  have hD : va_D (fun q : Nat => s.heap.size ≤ q) (mwA cI cZ h2 r2 v ed tb ++ xwA cI h r1 u hr nx fw bw ln lv cm) := hD
  refine lv_aload_n hx hb dL_law_418 rfl (lv_at hl 2 rfl) ?_
  refine cl_iJ (As := []) (rest := [.int x1]) (C := RX1) (wc := mwA cI cZ h2 r2 v ed tb) (wr := xwA cI h r1 u hr nx fw bw ln lv cm) F (M_steps l D cI cZ h2 r2 v.1 v.2.1 ed v.2.2.1 v.2.2.2 tb) (lw_V q305 q306 q307 q21 q308) 0 rfl (by decide +kernel) ⟨Nat.le_of_ble_eq_true rfl, Nat.le_of_ble_eq_true rfl⟩ ⟨rfl, rfl⟩ ⟨Nat.le_of_ble_eq_true rfl, Nat.le_of_ble_eq_true rfl⟩ hK hP hD hS hA [0, 1, 2, 3, 4] [5, 6, 7, 8, 9, 10, 11, 12, 13, 14, 15] rfl rfl (by decide) (by decide) (by decide) 0 1 rfl rfl hl.1 rfl (Nat.le_of_ble_eq_true rfl) dL_law_419 (fun x2 v1 H locs hw2 hP hD hS => ?_)
  
  have hP : va_P D vwCl (xwA cI h r1 u hr nx fw bw ln lv cm ++ mwA cI cZ h2 r2 v ed tb) H := hP
  have hD : va_D (fun q : Nat => s.heap.size ≤ q) (xwA cI h r1 u hr nx fw bw ln lv cm ++ mwA cI cZ h2 r2 v ed tb) := hD
  refine lv_icmp_eq (tgt := 427) hx hb dL_law_422 (by decide) (fun c422 => ?_) (fun c422 => ?_)
  · exact K u v fw bw ed hr nx ln lv cm tb H locs ls hI hP hD hS hl
  · exact absurd (by rw [hw1, hw2, n6]) c422
end
section
/-! the law's loop, and the law -/
theorem law_c {L i : Nat} (hL : L ≤ 256) (hi : i ≤ L) (h : ¬ Int32.ofNat L - nI 4 < nI i) : i + 4 ≤ L := by
  have h : ¬ nI L - nI 4 < nI i := h
  rw [fa_lt, pk_sub_toInt (by omega) (by omega), nI_toInt (by omega)] at h
  omega
set_option maxHeartbeats 4000000 in
set_option maxRecDepth 100000 in
theorem law_loop {p : Program} {l : Launch} {e : Env} {s : State} {m : MethodId} {below : List Frame} {meth : Method} {c : Code} {D : va_G} {cI cZ : ClassId} {b L h h2 : Nat} {r1 r2 : Nat → Nat} {xs : Nat → Int32} (hL : L ≤ 256) (C0 : lw_At p s m meth c b L xs) (hK : va_K D vwCl (tyL cI cZ) s) :
    ∀ (n i : Nat), i ≤ L → L + 1 ≤ i + n → lwK p l e s m below meth c D cI cZ b h h2 r1 r2 i 18 := by
  intro n
  induction n with
  | zero =>
    intro i h1 h2
    exact absurd h2 (by omega)
  | succ n ih =>
    intro i hi hn
    obtain ⟨hx, hb, hr0, hml, hown, hts0, hX, hbl, hlocks, hgv⟩ := id C0
    have hA : ∀ q : Nat, s.heap.size ≤ q → (fun q : Nat => s.heap.size ≤ q) q := fun _ h => h
    have hbA : ¬ (fun q : Nat => s.heap.size ≤ q) b := Nat.not_le.mpr hbl
    intro u v fw bw ed hr nx ln lv cm tb H locs ls hI hP hD hS hl
    refine lv_iload_n hx hb dL_law_18 rfl (lv_at hl 3 rfl) ?_
    refine lv_aload_n hx hb dL_law_19 rfl (lv_at hl 0 rfl) ?_
    refine va_slen hx hb hX hbl hbA hS dL_law_20 ?_
    refine lv_iconst (v := nI 4) hx hb dL_law_21 (by decide) ?_
    refine lv_isub hx hb dL_law_22 ?_
    refine lv_icmp_gt (tgt := 433) hx hb dL_law_23 (by decide) (fun c23 => ?_) (fun c23 => ?_)
    · refine lv_iconst (v := 1) hx hb dL_law_433 (by decide) ?_
      refine va_forget (fun q hq => hS.2.2 q hq) ?_
      refine W.widen (k := 600000) (n := 7290000) (by decide) (by decide) ?_
      exact lw_ret hx hb hr0 hlocks dL_law_434
    · have h4 : i + 4 ≤ L := law_c hL hi c23
      have K : lwK p l e s m below meth c D cI cZ b h h2 r1 r2 i 427 := by
        intro u v fw bw ed hr nx ln lv cm tb H locs ls hI hP hD hS hl
        refine lv_iinc (v := nI (i + 4)) (lv' := [(3, .int (nI (i + 4))), (0, .ref b), (1, .ref h), (2, .ref h2)]) (k := 3) hx hb dL_law_427 hl rfl (nI_add i 4) (by decide) rfl (fun ls hl => ?_)
        refine lv_goto (tgt := 18) hx hb dL_law_430 (by decide) ?_
        exact ih (i + 4) (by omega) (by omega) u v fw bw ed hr nx ln lv cm tb H locs ls hI hP hD hS (lv_sub hl [1, 2, 3, 0] rfl)
      refine lv_aload_n hx hb dL_law_26 rfl (lv_at hl 0 rfl) ?_
      refine lv_iload_n hx hb dL_law_27 rfl (lv_at hl 3 rfl) ?_
      refine sx_ld hx hb hX hbl hbA hS (by omega) hL dL_law_28 ?_
      refine lv_bipush (v := 15) hx hb dL_law_29 (by decide) ?_
      refine lv_iand hx hb dL_law_31 ?_
      obtain ⟨j, hj, ej⟩ := pk_andE (xs i) (m := 15) 4 (by decide)
      rw [ej]
      rcases (show j = 0 ∨ j = 1 ∨ j = 2 ∨ j = 3 ∨ j = 4 ∨ j = 5 ∨ j = 6 ∨ j = 7 ∨ j = 8 ∨ j = 9 ∨ j = 10 ∨ j = 11 ∨ j = 12 ∨ j = 13 ∨ j = 14 ∨ j = 15 by omega) with rfl | rfl | rfl | rfl | rfl | rfl | rfl | rfl | rfl | rfl | rfl | rfl | rfl | rfl | rfl | rfl
      · refine lv_tableIn (tgt := 108) hx hb dL_law_32 (by decide) (by decide) rfl (by decide) ?_
        exact law_0 hL C0 h4 hK K u v fw bw ed hr nx ln lv cm tb H locs ls hI hP hD hS hl
      · refine lv_tableIn (tgt := 167) hx hb dL_law_32 (by decide) (by decide) rfl (by decide) ?_
        exact law_1 hL C0 h4 hK K u v fw bw ed hr nx ln lv cm tb H locs ls hI hP hD hS hl
      · refine lv_tableIn (tgt := 190) hx hb dL_law_32 (by decide) (by decide) rfl (by decide) ?_
        exact law_2 hL C0 h4 hK K u v fw bw ed hr nx ln lv cm tb H locs ls hI hP hD hS hl
      · refine lv_tableIn (tgt := 213) hx hb dL_law_32 (by decide) (by decide) rfl (by decide) ?_
        exact law_3 hL C0 h4 hK K u v fw bw ed hr nx ln lv cm tb H locs ls hI hP hD hS hl
      · refine lv_tableIn (tgt := 236) hx hb dL_law_32 (by decide) (by decide) rfl (by decide) ?_
        exact law_4 hL C0 h4 hK K u v fw bw ed hr nx ln lv cm tb H locs ls hI hP hD hS hl
      · refine lv_tableIn (tgt := 249) hx hb dL_law_32 (by decide) (by decide) rfl (by decide) ?_
        exact law_5 hL C0 h4 hK K u v fw bw ed hr nx ln lv cm tb H locs ls hI hP hD hS hl
      · refine lv_tableIn (tgt := 262) hx hb dL_law_32 (by decide) (by decide) rfl (by decide) ?_
        exact law_6 hL C0 h4 hK K u v fw bw ed hr nx ln lv cm tb H locs ls hI hP hD hS hl
      · refine lv_tableIn (tgt := 275) hx hb dL_law_32 (by decide) (by decide) rfl (by decide) ?_
        exact law_7 hL C0 h4 hK K u v fw bw ed hr nx ln lv cm tb H locs ls hI hP hD hS hl
      · refine lv_tableIn (tgt := 286) hx hb dL_law_32 (by decide) (by decide) rfl (by decide) ?_
        exact law_8 hL C0 h4 hK K u v fw bw ed hr nx ln lv cm tb H locs ls hI hP hD hS hl
      · refine lv_tableIn (tgt := 319) hx hb dL_law_32 (by decide) (by decide) rfl (by decide) ?_
        exact law_9 hL C0 h4 hK K u v fw bw ed hr nx ln lv cm tb H locs ls hI hP hD hS hl
      · refine lv_tableIn (tgt := 352) hx hb dL_law_32 (by decide) (by decide) rfl (by decide) ?_
        exact law_10 hL C0 h4 hK K u v fw bw ed hr nx ln lv cm tb H locs ls hI hP hD hS hl
      · refine lv_tableIn (tgt := 375) hx hb dL_law_32 (by decide) (by decide) rfl (by decide) ?_
        exact law_11 hL C0 h4 hK K u v fw bw ed hr nx ln lv cm tb H locs ls hI hP hD hS hl
      · refine lv_tableIn (tgt := 388) hx hb dL_law_32 (by decide) (by decide) rfl (by decide) ?_
        exact law_12 hL C0 h4 hK K u v fw bw ed hr nx ln lv cm tb H locs ls hI hP hD hS hl
      · refine lv_tableIn (tgt := 401) hx hb dL_law_32 (by decide) (by decide) rfl (by decide) ?_
        exact law_13 hL C0 h4 hK K u v fw bw ed hr nx ln lv cm tb H locs ls hI hP hD hS hl
      · refine lv_tableIn (tgt := 414) hx hb dL_law_32 (by decide) (by decide) rfl (by decide) ?_
        exact law_14 hL C0 h4 hK K u v fw bw ed hr nx ln lv cm tb H locs ls hI hP hD hS hl
      · refine lv_tableOut (tgt := 427) hx hb dL_law_32 (Or.inr (by decide)) (by decide) ?_
        exact K u v fw bw ed hr nx ln lv cm tb H locs ls hI hP hD hS hl
set_option maxHeartbeats 4000000 in
set_option maxRecDepth 100000 in
theorem whole_start {p : Program} {e : Env} {s : State} {m : MethodId} {below : List Frame} {meth : Method} {c : Code} (l : Launch) {b L : Nat} {xs : Nat → Int32} (hL : L ≤ 256) (C0 : lw_At p s m meth c b L xs) : W p l e room_1 s m #[Value.ref b] below meth c s.heap [] 0 0 (lw_Z below #[Value.ref b] s) (entryFrame m ([Value.ref b] : List Value).toArray 4) := by
  obtain ⟨hx, hb, hr0, hml, hown, hts0, hX, hbl, hlocks, hgv⟩ := id C0
  have hts : ∀ w ∈ lw_all, w.before #[Value.ref b] s = true := fun w h => hts0 w (lw_all_tbl h)
  have hA : ∀ q : Nat, s.heap.size ≤ q → (fun q : Nat => s.heap.size ≤ q) q := fun _ h => h
  have F : CallFix p m c cL_law 4 s #[Value.ref b] lw_all R_law := ⟨hx, hb, hml, hown, hts⟩
  obtain ⟨c0, iS0, hKn0⟩ := u_known (C := RX0) (T := TX0) (N := 16) (n := 16) hts in_X0 (hts _ q23)
  obtain ⟨c1, iS1, hKn1⟩ := u_known (C := RX1) (T := TX1) (N := 6) (n := 6) hts in_X1 (hts _ q191)
  obtain ⟨dC, dI, hKc0⟩ : ∃ (dC : Nat → ClassId) (dI : Nat → Nat → Nat), ∀ (k : Nat) (q : vw_C), vwCl[k]? = some q → u_Kn s q.1 q.2.1 q.2.2 (dC k) (dI k) := by
    refine ⟨fun k => if k = 0 then c0 else c1, fun k => if k = 0 then iS0 else iS1, ?_⟩
    intro k q hq
    match k, hq with
    | 0, hq => cases hq; exact hKn0
    | 1, hq => cases hq; exact hKn1
    | k + 2, hq => simp [vwCl] at hq
  have hS : va_S (fun q : Nat => s.heap.size ≤ q) s.heap s.heap [] := va_S.rf
  have hK : va_K (dC, dI) vwCl [] s := ⟨hKc0, fun k q h => by simp at h⟩
  have hP : va_P (dC, dI) vwCl [] s.heap := fun k q h => by simp at h
  have hD : va_D (fun q : Nat => s.heap.size ≤ q) [] := ⟨fun i j p q h => by simp at h, fun k q h => by simp at h⟩
  have hl := lv_entry ([.ref b]) (n := 4) (Nat.le_of_ble_eq_true rfl)
  rw [lg_entry_eq]
  generalize (lg_sl ([.ref b]) ++ List.replicate (4 - (lg_sl ([.ref b])).length) Slot.unset).toArray = ls at hl ⊢
  have hl : lv_has ls 4 [(0, .ref b)] := hl
  refine va_new (ci := 0) (fs := [.null, .null, .int 0, .int 0, .int 0, .null, .null, .null, .int 0, .null, .null, .null, .int 0, .int 0, .null, .null]) (C := RX0) (T := TX0) (N := 16) hx hb hts in_X0 tyX0 tyX0_ok hown (hts _ q22) (hts _ q23) (hts _ q20) hK hP hD hS hA rfl (fun j hj => by rcases (show j = 0 ∨ j = 1 ∨ j = 2 ∨ j = 3 ∨ j = 4 ∨ j = 5 ∨ j = 6 ∨ j = 7 ∨ j = 8 ∨ j = 9 ∨ j = 10 ∨ j = 11 ∨ j = 12 ∨ j = 13 ∨ j = 14 ∨ j = 15 by omega) with rfl | rfl | rfl | rfl | rfl | rfl | rfl | rfl | rfl | rfl | rfl | rfl | rfl | rfl | rfl | rfl <;> rfl) (Nat.le_of_ble_eq_true rfl) (Nat.le_of_ble_eq_true rfl) dL_law_0 (fun qx H hP hD hS => ?_)
  have hP : va_P (dC, dI) vwCl [(qx, .inr (0, [.null, .null, .int 0, .int 0, .int 0, .null, .null, .null, .int 0, .null, .null, .null, .int 0, .int 0, .null, .null]))] H := hP
  have hD : va_D (fun q : Nat => s.heap.size ≤ q) [(qx, .inr (0, [.null, .null, .int 0, .int 0, .int 0, .null, .null, .null, .int 0, .null, .null, .null, .int 0, .int 0, .null, .null]))] := hD
  refine W.widen (k := 1) (n := 16) (by decide) (by decide) ?_
  refine lv_dup hx hb dL_law_3 rfl ?_
  have hPc := hP
  have hDc := hD
  have hKc := hK
  have hFc := zz_free hD hS hA
  refine va_callv (va_runI (As := []) (rest := [.ref qx]) F (X_init l (dC, dI) qx H.size) (cwI 0 hts (lw_meth q26) rfl rfl rfl (hts _ q20) (hts _ q24) (hts _ q25) rfl (by decide +kernel) ⟨Nat.le_of_ble_eq_true rfl, Nat.le_of_ble_eq_true rfl⟩) ⟨fun a U g mk q => by obtain ⟨q0, q1, qP, qK, qD⟩ := q; exact ⟨q0, q1, qP, va_K.moved (u := U) (U := U.calling g mk a) (Vm.Alike.refl U.vm) qK, qD⟩, fun U hU hW => ⟨rfl, by rw [hU], by rw [hU]; exact hPc, va_K.moved hW.alike hKc, hDc.weaken (fun _ _ _ _ => trivial)⟩⟩ rfl rfl hl.1 rfl (lv_room (Nat.le_of_ble_eq_true rfl)) dL_law_4 ⟨Nat.le_of_ble_eq_true rfl, Nat.le_of_ble_eq_true rfl⟩) hS (fun q _ h => hFc q h) hFc (fun u t H1 locs ht hvm hw hB hz1 hk1 hS => ?_)
  obtain ⟨cI, r1⟩ := u
  obtain ⟨hP1, hK1, hD1⟩ := hB
  rw [ht] at hP1
  have hK1 := va_K.moved hvm.symm hK1
  have hK : va_K (dC, dI) vwCl [(cI, .int)] s := hK1
  have hP : va_P (dC, dI) vwCl (xw cI qx r1 0 0 0 0 0 0 (fun _ => 0) (fun _ => 0) (fun _ => 0) (fun _ => 0) (fun _ => 0) (fun _ => 0) (fun _ => 0) (fun _ => 1) (fun _ => 0) (fun _ => 0)) H1 := hP1
  have hD : va_D (fun q : Nat => s.heap.size ≤ q) (xw cI qx r1 0 0 0 0 0 0 (fun _ => 0) (fun _ => 0) (fun _ => 0) (fun _ => 0) (fun _ => 0) (fun _ => 0) (fun _ => 0) (fun _ => 1) (fun _ => 0) (fun _ => 0)) := hD1.weaken (fun _ q _ h => hFc q.1 h)
  generalize H1 = H at hP hS ⊢
  refine W.widen (k := 11) (n := 916) (by decide) (by decide) ?_
  refine lv_astore_n (lv' := [(1, .ref qx), (0, .ref b)]) hx hb dL_law_7 rfl hl (by decide) rfl (fun ls hl => ?_)
  refine va_new (ci := 1) (fs := [.null, .int 0, .null, .null, .int 0, .null]) (C := RX1) (T := TX1) (N := 6) hx hb hts in_X1 tyX1 tyX1_ok hown (hts _ q190) (hts _ q191) (hts _ q21) hK hP hD hS hA rfl (fun j hj => by rcases (show j = 0 ∨ j = 1 ∨ j = 2 ∨ j = 3 ∨ j = 4 ∨ j = 5 by omega) with rfl | rfl | rfl | rfl | rfl | rfl <;> rfl) (Nat.le_of_ble_eq_true rfl) (Nat.le_of_ble_eq_true rfl) dL_law_8 (fun qm H hP hD hS => ?_)
  have hP : va_P (dC, dI) vwCl (xw cI qx r1 0 0 0 0 0 0 (fun _ => 0) (fun _ => 0) (fun _ => 0) (fun _ => 0) (fun _ => 0) (fun _ => 0) (fun _ => 0) (fun _ => 1) (fun _ => 0) (fun _ => 0) ++ [(qm, .inr (1, [.null, .int 0, .null, .null, .int 0, .null]))]) H := hP
  have hD : va_D (fun q : Nat => s.heap.size ≤ q) (xw cI qx r1 0 0 0 0 0 0 (fun _ => 0) (fun _ => 0) (fun _ => 0) (fun _ => 0) (fun _ => 0) (fun _ => 0) (fun _ => 0) (fun _ => 1) (fun _ => 0) (fun _ => 0) ++ [(qm, .inr (1, [.null, .int 0, .null, .null, .int 0, .null]))]) := hD
  refine W.widen (k := 12) (n := 922) (by decide) (by decide) ?_
  refine lv_dup hx hb dL_law_11 rfl ?_
  have hPc := hP.sub (ws' := [(qm, .inr (1, [.null, .int 0, .null, .null, .int 0, .null]))]) [11] rfl
  have hDc := hD.sub (ws' := [(qm, .inr (1, [.null, .int 0, .null, .null, .int 0, .null]))]) [11] (by decide) rfl
  have hKc := hK.sub (tys' := []) [] rfl
  have hFc := va_free (wc := [(qm, .inr (1, [.null, .int 0, .null, .null, .int 0, .null]))]) hD hS hA [11] rfl
  refine va_callv (va_runI (As := []) (rest := [.ref qm]) F (M_init l (dC, dI) qm H.size) (cwI 0 hts (lw_meth q194) rfl rfl rfl (hts _ q21) (hts _ q192) (hts _ q193) rfl (by decide +kernel) ⟨Nat.le_of_ble_eq_true rfl, Nat.le_of_ble_eq_true rfl⟩) ⟨fun a U g mk q => by obtain ⟨q0, q1, qP, qK, qD⟩ := q; exact ⟨q0, q1, qP, va_K.moved (u := U) (U := U.calling g mk a) (Vm.Alike.refl U.vm) qK, qD⟩, fun U hU hW => ⟨rfl, by rw [hU], by rw [hU]; exact hPc, va_K.moved hW.alike hKc, hDc.weaken (fun _ _ _ _ => trivial)⟩⟩ rfl rfl hl.1 rfl (lv_room (Nat.le_of_ble_eq_true rfl)) dL_law_12 ⟨Nat.le_of_ble_eq_true rfl, Nat.le_of_ble_eq_true rfl⟩) hS (fun q _ h => hFc q h) hFc (fun u t H1 locs ht hvm hw hB hz1 hk1 hS => ?_)
  obtain ⟨c2, cZ, r2⟩ := u
  obtain ⟨hP1, hK1, hD1⟩ := hB
  rw [ht] at hP1
  have hK1 := va_K.moved hvm.symm hK1
  have hK1 : va_K (dC, dI) vwCl (tyL c2 cZ) s := hK1
  have hP1 : va_P (dC, dI) vwCl (mw c2 cZ qm r2 0 0 (fun _ => 0) (fun _ => 0) (fun _ => 1) (fun _ => 0)) H1 := hP1
  obtain ⟨hP, hD⟩ := va_join (wr := xw cI qx r1 0 0 0 0 0 0 (fun _ => 0) (fun _ => 0) (fun _ => 0) (fun _ => 0) (fun _ => 0) (fun _ => 0) (fun _ => 0) (fun _ => 1) (fun _ => 0) (fun _ => 0)) (w1 := mw c2 cZ qm r2 0 0 (fun _ => 0) (fun _ => 0) (fun _ => 1) (fun _ => 0)) hP hD [11] [0, 1, 2, 3, 4, 5, 6, 7, 8, 9, 10] rfl rfl (by decide) (by decide) hk1 hFc hP1 hD1
  have hK := hK.app hK1
  have hK : va_K (dC, dI) vwCl [(cI, .int), (c2, .int), (cZ, .boolean)] s := hK
  obtain rfl : cI = c2 := va_same hK 0 1 rfl rfl
  have hK : va_K (dC, dI) vwCl (tyL cI cZ) s := hK1
  generalize H1 = H at hP hS ⊢
  refine W.widen (k := 16) (n := 1590) (by decide) (by decide) ?_
  refine lv_astore_n (lv' := [(2, .ref qm), (1, .ref qx), (0, .ref b)]) hx hb dL_law_15 rfl hl (by decide) rfl (fun ls hl => ?_)
  refine lv_iconst (v := nI 0) hx hb dL_law_16 (by decide) ?_
  refine lv_istore_n (lv' := [(3, .int (nI 0)), (2, .ref qm), (1, .ref qx), (0, .ref b)]) hx hb dL_law_17 rfl hl (by decide) rfl (fun ls hl => ?_)
  exact law_loop hL C0 hK (L + 1) 0 (Nat.zero_le L) (by omega) _ _ _ _ _ 0 0 (fun _ => 1) (fun _ => 0) (fun _ => 0) (fun _ => 0) _ _ _ INV_0 hP hD hS (lv_sub hl [3, 2, 1, 0] rfl)
end
section
set_option maxHeartbeats 4000000 in
theorem lw_walk (l : Launch) (b : Addr) (xs : List Int32) : MetFree l x (headSpec (Jvm.Cond.code x code maxLocals ret :: tables_1) room_1) (lw_P b xs) (fun _ _ _ _ _ => True) lw_Q := by
  refine MetFree.of_bodyS (code := code) (maxLocals := maxLocals) (ret := ret) (by decide) ?_ ?_
  · intro args s m h hn
    obtain ⟨meth, c, h1, h2, h3, h4, h5, h6, -, -⟩ := Cond.code_spec hn (atoms_spec (ws := Jvm.Cond.code x code maxLocals ret :: tables_1) h _ List.mem_cons_self)
    exact ⟨meth, c, h1, h2, h3, h4, h5, h6⟩
  · intro p e s m args below meth c s₁ B hml0 hP _
    obtain ⟨rfl, hx, hbd, hgv⟩ := hP
    obtain ⟨scr, harrAt, hlist, hof, hsmall⟩ := hx
    obtain ⟨hcb, hkn, -, -⟩ := State.arrayAt?_spec harrAt
    have hown : s.vm.findClass R_law = some m.cls := findClass_of_methodNamed B.named
    have hts0 : ∀ c ∈ (Jvm.Cond.code x code maxLocals ret :: tables_1), c.before #[Value.ref b] s = true := atoms_spec (ws := Jvm.Cond.code x code maxLocals ret :: tables_1) B.pre
    have hts : ∀ w ∈ lw_tbl, w.before #[Value.ref b] s = true := k2_hts_sels lw_privs (fun w hw => hts0 w (List.mem_cons_of_mem _ hw)) lw_privs_ok
    have hml : c.maxLocals = 4 := B.maxLocals_eq (hts0 _ List.mem_cons_self)
    have X₀ : Stand p l e room_1 s m #[Value.ref b] below meth c s₁ [] 0 0 := Stand.of_body B
    have hh0 : s₁.heap = s.heap := by rw [B.state]; rfl
    have hsz : scr.slots.size = xs.length := by rw [← Array.length_toList, hlist, List.length_map]
    have hval : ∀ j : Nat, j < xs.length → scr.slots[j]? = some (.int (xs.getD j 0)) := fun j hj => by
      rw [← Array.getElem?_toList, hlist]
      simp [hj]
    have hbl : b < s.heap.size := (Array.getElem?_eq_some_iff.mp hcb).1
    have hX : va_X b xs.length (fun j => xs.getD j 0) s s.heap := ⟨scr, hcb, hof, hkn, hsz, hval⟩
    have K : W p l e room_1 s m #[Value.ref b] below meth c s₁.heap [] 0 0 (lw_Z below #[Value.ref b] s) (entryFrame m ([Value.ref b] : List Value).toArray 4) := by
      rw [hh0]
      exact whole_start l hbd ⟨B.exec, B.bytes, B.returns, hml, hown, hts, hX, hbl, B.notSynchronized, hgv⟩
    obtain ⟨t, a1, o, b1, b2, b3⟩ := K s₁ rfl X₀
    exact ⟨t, o, a1, b1, b2, b3⟩
theorem lw_pre_spec {args : Array Value} {s : State} (h : (Jvm.Cond.and given_1 narrow_1).before args s = true) (hr : rest_1_c.before args s = true) : ∃ (b : Addr) (xs : List Int32), lw_P b xs args s := by
  have hs := flat_of_before _ h
  have hq := flat_of_before _ hr
  have hc : (Cond.count 1).before args s = true := hs _ (by decide +kernel)
  have harr : (Cond.arrayOf (.arg 0) .int).before args s = true := hs _ (by decide +kernel)
  have hle : (Cond.le (.length (.arg 0)) (.int 256)).before args s = true := hs _ (by decide +kernel)
  have hlen : (Cond.isInt (.length (.arg 0))).before args s = true := hq _ (by decide +kernel)
  have hall : (Cond.all (.arg 0) (.isInt (.elem (.arg 0) (.index 0)))).before args s = true := hq _ (by decide +kernel)
  obtain ⟨b, xs, hb, hx⟩ := State.ints_of_pre rfl harr hlen hall
  have hsm : xs.length < 2 ^ 31 := hx.choose_spec.2.2.2
  have hev : (Term.length (.arg 0)).eval args s none [] s = some (.int xs.length.toInt32) := hx.length_eval hb
  have hv := Cond.le_ints hev (show (Term.int 256).eval args s none [] s = some (.int 256) from rfl)
  have hd : xs.length.toInt32 ≤ 256 := by
    simpa [Cond.before, Cond.holds, hv] using hle
  have hN : xs.length ≤ 256 := (Int32.ofNat_le_ofNat hsm (by decide)).mp (show Int32.ofNat xs.length ≤ Int32.ofNat 256 from hd)
  exact ⟨b, xs, Cond.one_arg hc (show args[0]? = some (.ref b) from hb), hx, hN, h⟩
theorem lw_comes (l : Launch) : Comes l x (Jvm.Cond.code x code maxLocals ret :: tables_1) room_1 (fun tb e args s => Calls_1 tb e args s ∧ rest_1 tb e args s ∧ Pre_1 tb e args s)
    (fun _ _ args s o t => lw_Q args s o t) := by
  intro p e ha hc hk s m args below hf hfit hheap happ hpre
  obtain ⟨b, xs, hP⟩ := lw_pre_spec hpre.2.2 hpre.2.1
  obtain ⟨k, o, h1, h2, h3, hQ⟩ := lw_walk l b xs p e ha hc hk s m args below hf ((Spec.applies_iff_loose hf).mp happ).1 hP trivial
  exact ⟨k, o, h1, h2, h3, hQ⟩
theorem lw_frame {s t : State} {o : Outcome} {args : Array Value} (h : Framed s o t [] 600000 7290000) :
    Framed s o t (fieldLocs frame_1_writes args s ++ arrayLocs frame_1_arrays args s ++ staticLocs frame_1_statics s) 600000 7290000 := h
theorem lw_limb (L : Cond) (hL : ∀ (args : Array Value) (s t : State), L.after args s (.returned (some (.int 1))) t = true) :
    ArmFor flags0 classFile x code maxLocals ret World_1 tables_1 room_1 Calls_1 rest_1 Pre_1
      (fun tb e a s o t => postC L tb e a s o t ∧ Framed s o t (fieldLocs frame_1_writes a s ++ arrayLocs frame_1_arrays a s ++ staticLocs frame_1_statics s) 600000 7290000) := by
  intro l _ _ _ p e ha hc hk s m args below hf hfit hheap happ hpre
  obtain ⟨k, o, h1, h2, h3, rfl, hF⟩ := lw_comes l p e ha hc hk s m args below hf hfit hheap happ hpre
  exact ⟨k, _, h1, h2, h3, hL args s _, lw_frame hF⟩
theorem i_vc : Claimed_1_1 ∧ Claimed_1_2 := ⟨lw_limb limb_1_1 (fun args s t => by simp [limb_1_1, Cond.after, Cond.holds, Cond.value]), lw_limb limb_1_2 (fun args s t => Cond.after_iff.mpr (by
  first | (rw [show limb_1_2 = Cond.eq .result (.int 1) from rfl, Cond.eq_ints (x := 1) (y := 1) rfl rfl]; simp; done) | (simp [limb_1_2, Cond.value, Term.eval]; done)))⟩
end
