section
-- ===== PART A: goes FIRST, ahead of the names: the tables' words, and 'selects' of the private methods out of them =====
/-- a private method of a class that the tables say can be made, by its rows of tables_1 -/
def lw_okq (q : MethodName × Nat) : Prop := (q.1.cls ≠ "java/lang/invoke/MethodHandle" ∧ q.1.cls ≠ "java/lang/invoke/VarHandle") ∧ Cond.instantiable q.1.cls q.2 ∈ tables_1 ∧ Cond.privateMethod q.1 ∈ tables_1 ∧ Cond.instanceMethod q.1 ∈ tables_1
set_option maxRecDepth 100000
theorem lw_t1 {w : Cond} (h : w ∈ tables_1_1) : w ∈ tables_1 := List.mem_append_left _ h
theorem lw_t2 {w : Cond} (h : w ∈ tables_1_2) : w ∈ tables_1 := List.mem_append_right _ h
theorem lw_p0 : lw_okq (⟨"MapReduceRun", "failuresToCome", "()I"⟩, 28) := ⟨⟨by decide +kernel, by decide +kernel⟩, lw_t1 (List.mem_of_getElem? (i := 4) rfl), lw_t1 (List.mem_of_getElem? (i := 121) rfl), lw_t1 (List.mem_of_getElem? (i := 122) rfl)⟩
theorem lw_p1 : lw_okq (⟨"MapReduceRun", "mapSplit", "(I)V"⟩, 28) := ⟨⟨by decide +kernel, by decide +kernel⟩, lw_t1 (List.mem_of_getElem? (i := 4) rfl), lw_t1 (List.mem_of_getElem? (i := 125) rfl), lw_t1 (List.mem_of_getElem? (i := 126) rfl)⟩
theorem lw_p2 : lw_okq (⟨"MapReduceRun", "mapRecord", "(I)V"⟩, 28) := ⟨⟨by decide +kernel, by decide +kernel⟩, lw_t1 (List.mem_of_getElem? (i := 4) rfl), lw_t1 (List.mem_of_getElem? (i := 129) rfl), lw_t1 (List.mem_of_getElem? (i := 130) rfl)⟩
theorem lw_p3 : lw_okq (⟨"MapReduceRun", "spill", "()V"⟩, 28) := ⟨⟨by decide +kernel, by decide +kernel⟩, lw_t1 (List.mem_of_getElem? (i := 4) rfl), lw_t1 (List.mem_of_getElem? (i := 133) rfl), lw_t1 (List.mem_of_getElem? (i := 134) rfl)⟩
theorem lw_p4 : lw_okq (⟨"MapReduceRun", "sortBuffer", "()V"⟩, 28) := ⟨⟨by decide +kernel, by decide +kernel⟩, lw_t1 (List.mem_of_getElem? (i := 4) rfl), lw_t1 (List.mem_of_getElem? (i := 137) rfl), lw_t1 (List.mem_of_getElem? (i := 138) rfl)⟩
theorem lw_p5 : lw_okq (⟨"MapReduceRun", "comesAfter", "(II)Z"⟩, 28) := ⟨⟨by decide +kernel, by decide +kernel⟩, lw_t1 (List.mem_of_getElem? (i := 4) rfl), lw_t1 (List.mem_of_getElem? (i := 141) rfl), lw_t1 (List.mem_of_getElem? (i := 142) rfl)⟩
theorem lw_p6 : lw_okq (⟨"MapReduceRun", "combineBuffer", "()V"⟩, 28) := ⟨⟨by decide +kernel, by decide +kernel⟩, lw_t1 (List.mem_of_getElem? (i := 4) rfl), lw_t1 (List.mem_of_getElem? (i := 145) rfl), lw_t1 (List.mem_of_getElem? (i := 146) rfl)⟩
theorem lw_p7 : lw_okq (⟨"MapReduceRun", "combined", "(II)I"⟩, 28) := ⟨⟨by decide +kernel, by decide +kernel⟩, lw_t1 (List.mem_of_getElem? (i := 4) rfl), lw_t1 (List.mem_of_getElem? (i := 149) rfl), lw_t1 (List.mem_of_getElem? (i := 150) rfl)⟩
theorem lw_p8 : lw_okq (⟨"MapReduceRun", "reducePart", "(I)V"⟩, 28) := ⟨⟨by decide +kernel, by decide +kernel⟩, lw_t1 (List.mem_of_getElem? (i := 4) rfl), lw_t1 (List.mem_of_getElem? (i := 153) rfl), lw_t1 (List.mem_of_getElem? (i := 154) rfl)⟩
theorem lw_p9 : lw_okq (⟨"MapReduceRun", "openSpills", "(I)V"⟩, 28) := ⟨⟨by decide +kernel, by decide +kernel⟩, lw_t1 (List.mem_of_getElem? (i := 4) rfl), lw_t1 (List.mem_of_getElem? (i := 157) rfl), lw_t1 (List.mem_of_getElem? (i := 158) rfl)⟩
theorem lw_p10 : lw_okq (⟨"MapReduceRun", "leastHead", "()I"⟩, 28) := ⟨⟨by decide +kernel, by decide +kernel⟩, lw_t1 (List.mem_of_getElem? (i := 4) rfl), lw_t1 (List.mem_of_getElem? (i := 161) rfl), lw_t1 (List.mem_of_getElem? (i := 162) rfl)⟩
theorem lw_p11 : lw_okq (⟨"MapReduceRun", "reduceGroup", "(I)V"⟩, 28) := ⟨⟨by decide +kernel, by decide +kernel⟩, lw_t1 (List.mem_of_getElem? (i := 4) rfl), lw_t1 (List.mem_of_getElem? (i := 165) rfl), lw_t1 (List.mem_of_getElem? (i := 166) rfl)⟩
theorem lw_p12 : lw_okq (⟨"MapReduceRun", "isResult", "(II)Z"⟩, 28) := ⟨⟨by decide +kernel, by decide +kernel⟩, lw_t1 (List.mem_of_getElem? (i := 4) rfl), lw_t1 (List.mem_of_getElem? (i := 177) rfl), lw_t1 (List.mem_of_getElem? (i := 178) rfl)⟩
theorem lw_p13 : lw_okq (⟨"MapReduceRunModel", "counts", "(I)Z"⟩, 13) := ⟨⟨by decide +kernel, by decide +kernel⟩, lw_t1 (List.mem_of_getElem? (i := 200) rfl), lw_t2 (List.mem_of_getElem? (i := 29) rfl), lw_t2 (List.mem_of_getElem? (i := 30) rfl)⟩
theorem lw_p14 : lw_okq (⟨"MapReduceRunModel", "reduce", "(II)I"⟩, 13) := ⟨⟨by decide +kernel, by decide +kernel⟩, lw_t1 (List.mem_of_getElem? (i := 200) rfl), lw_t2 (List.mem_of_getElem? (i := 33) rfl), lw_t2 (List.mem_of_getElem? (i := 34) rfl)⟩
theorem lw_p15 : lw_okq (⟨"MapReduceRunModel", "keyOf", "(I)I"⟩, 13) := ⟨⟨by decide +kernel, by decide +kernel⟩, lw_t1 (List.mem_of_getElem? (i := 200) rfl), lw_t2 (List.mem_of_getElem? (i := 37) rfl), lw_t2 (List.mem_of_getElem? (i := 38) rfl)⟩
def lw_privs_1 : List (MethodName × Nat) := [(⟨"MapReduceRun", "failuresToCome", "()I"⟩, 28), (⟨"MapReduceRun", "mapSplit", "(I)V"⟩, 28), (⟨"MapReduceRun", "mapRecord", "(I)V"⟩, 28), (⟨"MapReduceRun", "spill", "()V"⟩, 28), (⟨"MapReduceRun", "sortBuffer", "()V"⟩, 28), (⟨"MapReduceRun", "comesAfter", "(II)Z"⟩, 28), (⟨"MapReduceRun", "combineBuffer", "()V"⟩, 28), (⟨"MapReduceRun", "combined", "(II)I"⟩, 28), (⟨"MapReduceRun", "reducePart", "(I)V"⟩, 28), (⟨"MapReduceRun", "openSpills", "(I)V"⟩, 28), (⟨"MapReduceRun", "leastHead", "()I"⟩, 28), (⟨"MapReduceRun", "reduceGroup", "(I)V"⟩, 28), (⟨"MapReduceRun", "isResult", "(II)Z"⟩, 28), (⟨"MapReduceRunModel", "counts", "(I)Z"⟩, 13), (⟨"MapReduceRunModel", "reduce", "(II)I"⟩, 13), (⟨"MapReduceRunModel", "keyOf", "(I)I"⟩, 13)]
theorem lw_r1 : ∀ q ∈ lw_privs_1, lw_okq q := List.forall_mem_cons.mpr ⟨lw_p0, List.forall_mem_cons.mpr ⟨lw_p1, List.forall_mem_cons.mpr ⟨lw_p2, List.forall_mem_cons.mpr ⟨lw_p3, List.forall_mem_cons.mpr ⟨lw_p4, List.forall_mem_cons.mpr ⟨lw_p5, List.forall_mem_cons.mpr ⟨lw_p6, List.forall_mem_cons.mpr ⟨lw_p7, List.forall_mem_cons.mpr ⟨lw_p8, List.forall_mem_cons.mpr ⟨lw_p9, List.forall_mem_cons.mpr ⟨lw_p10, List.forall_mem_cons.mpr ⟨lw_p11, List.forall_mem_cons.mpr ⟨lw_p12, List.forall_mem_cons.mpr ⟨lw_p13, List.forall_mem_cons.mpr ⟨lw_p14, List.forall_mem_cons.mpr ⟨lw_p15, fun _ h => absurd h List.not_mem_nil⟩⟩⟩⟩⟩⟩⟩⟩⟩⟩⟩⟩⟩⟩⟩⟩
def lw_privs : List (MethodName × Nat) := lw_privs_1
def lw_tbl : List Cond := k2_sels lw_privs ++ tables_1
theorem lw_privs_ok : ∀ q ∈ lw_privs, lw_okq q := lw_r1
-- ===== ONE list of words for every method: the tables' words that hold all through a run =====
def lw_all : List Cond := lw_tbl.filter goodWord
/-- a word of the tables by its place: claim/WORDS.tsv -/
theorem lw_w {w : Cond} (i : Nat) (h : lw_tbl[i]? = some w) (g : goodWord w = true) : w ∈ lw_all := List.mem_filter.mpr ⟨List.mem_of_getElem? h, g⟩
theorem lw_all_tbl {w : Cond} (h : w ∈ lw_all) : w ∈ lw_tbl := (List.mem_filter.mp h).1
theorem lw_self : GoodIn lw_all lw_all := fun w h => ⟨h, good_of_word (List.mem_filter.mp h).2⟩
/-- a class's field words, by their places -/
theorem lw_in (ws : List Cond) (ps : List Nat) (hp : ws = ps.filterMap (fun i => lw_tbl[i]?)) (hg : ws.all goodWord = true) : ∀ w ∈ ws, w ∈ lw_all := by
  intro w h
  have h1 := List.all_eq_true.mp hg w h
  rw [hp] at h
  obtain ⟨i, -, hi⟩ := List.mem_filterMap.mp h
  exact lw_w i hi h1
/-- the words of a contract for the method y with code b, L locals, answer r -/
abbrev ws_ (y : MethodName) (b : ByteArray) (L : Nat) (r : Option FieldType) : List Cond := Cond.code y b L r :: lw_all
theorem lw_meth {y : MethodName} {b : ByteArray} {L : Nat} {r : Option FieldType} (h : Cond.code y b L r ∈ lw_all) : GoodIn lw_all (ws_ y b L r) := by
  intro w hw
  rcases List.mem_cons.mp hw with e | e
  · rw [e]
    exact lw_self _ h
  · exact lw_self _ e
theorem lw_app {a c : List Cond} (ha : ∀ w ∈ a, w ∈ lw_all) (hc : GoodIn lw_all c) : GoodIn lw_all (a ++ c) := by
  intro w hw
  rcases List.mem_append.mp hw with e | e
  · exact lw_self w (ha w e)
  · exact hc w e
/-- what a call through an object asks: cwV n hts (lw_V ..) -/
theorem lw_V {own : String} {idx : Nat} {C : String} {y : MethodName} {b : ByteArray} {L : Nat} {r : Option FieldType} (h1 : Cond.methodLink own idx y ∈ lw_all) (h2 : Cond.instanceMethod y ∈ lw_all) (h3 : Cond.selects C y y ∈ lw_all) (h4 : Cond.initialized C ∈ lw_all) (h5 : Cond.code y b L r ∈ lw_all) : GoodIn lw_all (wsV own idx C y (ws_ y b L r)) := by
  refine lw_app ?_ (lw_meth h5)
  intro w hw
  simp only [List.mem_cons, List.not_mem_nil, or_false] at hw
  rcases hw with e | e | e | e
  · rw [e]; exact h1
  · rw [e]; exact h2
  · rw [e]; exact h3
  · rw [e]; exact h4
/-- what a static call asks: va_cwS n hts (lw_S ..) -/
theorem lw_S {own : String} {idx : Nat} {y : MethodName} {b : ByteArray} {L : Nat} {r : Option FieldType} (h1 : Cond.methodLink own idx y ∈ lw_all) (h2 : Cond.static y ∈ lw_all) (h3 : Cond.initialized y.cls ∈ lw_all) (h4 : Cond.code y b L r ∈ lw_all) : GoodIn lw_all (va_wsS own idx y (ws_ y b L r)) := by
  refine lw_app ?_ (lw_meth h4)
  intro w hw
  simp only [List.mem_cons, List.not_mem_nil, or_false] at hw
  rcases hw with e | e | e
  · rw [e]; exact h1
  · rw [e]; exact h2
  · rw [e]; exact h3
/-- the words of a contract for a method WITH HANDLERS (hh: its table) -/
abbrev wsW_ (y : MethodName) (b : ByteArray) (L : Nat) (r : Option FieldType) (hh : List (Nat × Nat × Nat × Nat)) : List Cond := Cond.codeWith y b L r hh :: lw_all
theorem lw_methW {y : MethodName} {b : ByteArray} {L : Nat} {r : Option FieldType} {hh : List (Nat × Nat × Nat × Nat)} (h : Cond.codeWith y b L r hh ∈ lw_all) : GoodIn lw_all (wsW_ y b L r hh) := by
  intro w hw
  rcases List.mem_cons.mp hw with e | e
  · rw [e]
    exact lw_self _ h
  · exact lw_self _ e
/-- any list of words by their places (lw_in), good -/
theorem lw_good {ws : List Cond} (h : ∀ w ∈ ws, w ∈ lw_all) : GoodIn lw_all ws := fun w hw => lw_self w (h w hw)
/-- what a call of a method with handlers asks: vx_cwVW n hts (lw_VW ..), vx_cwSW n hts (lw_SW ..) -/
theorem lw_VW {own : String} {idx : Nat} {C : String} {y : MethodName} {b : ByteArray} {L : Nat} {r : Option FieldType} {hh : List (Nat × Nat × Nat × Nat)} (h1 : Cond.methodLink own idx y ∈ lw_all) (h2 : Cond.instanceMethod y ∈ lw_all) (h3 : Cond.selects C y y ∈ lw_all) (h4 : Cond.initialized C ∈ lw_all) (h5 : Cond.codeWith y b L r hh ∈ lw_all) : GoodIn lw_all (wsV own idx C y (wsW_ y b L r hh)) := by
  refine lw_app ?_ (lw_methW h5)
  intro w hw
  simp only [List.mem_cons, List.not_mem_nil, or_false] at hw
  rcases hw with e | e | e | e
  · rw [e]; exact h1
  · rw [e]; exact h2
  · rw [e]; exact h3
  · rw [e]; exact h4
theorem lw_SW {own : String} {idx : Nat} {y : MethodName} {b : ByteArray} {L : Nat} {r : Option FieldType} {hh : List (Nat × Nat × Nat × Nat)} (h1 : Cond.methodLink own idx y ∈ lw_all) (h2 : Cond.static y ∈ lw_all) (h3 : Cond.initialized y.cls ∈ lw_all) (h4 : Cond.codeWith y b L r hh ∈ lw_all) : GoodIn lw_all (va_wsS own idx y (wsW_ y b L r hh)) := by
  refine lw_app ?_ (lw_methW h4)
  intro w hw
  simp only [List.mem_cons, List.not_mem_nil, or_false] at hw
  rcases hw with e | e | e
  · rw [e]; exact h1
  · rw [e]; exact h2
  · rw [e]; exact h3
/-- a word by its place in its run of the tables -/
theorem lw_at {r : List Cond} (hr : ∀ w ∈ r, w ∈ lw_tbl) {w : Cond} (i : Nat) (h : r[i]? = some w) : w ∈ lw_tbl := hr w (List.mem_of_getElem? h)
theorem lw_g {w : Cond} (h : w ∈ lw_tbl) (g : goodWord w = true) : w ∈ lw_all := List.mem_filter.mpr ⟨h, g⟩
theorem lw_ms : ∀ w ∈ k2_sels lw_privs, w ∈ lw_tbl := fun w h => show w ∈ k2_sels lw_privs ++ tables_1 from List.mem_append_left _ h
theorem lw_m1 : ∀ w ∈ tables_1_1, w ∈ lw_tbl := fun w h => show w ∈ k2_sels lw_privs ++ tables_1 from List.mem_append_right (k2_sels lw_privs) (show w ∈ tables_1 from List.mem_append_left _ h)
theorem lw_m2 : ∀ w ∈ tables_1_2, w ∈ lw_tbl := fun w h => show w ∈ k2_sels lw_privs ++ tables_1 from List.mem_append_right (k2_sels lw_privs) (show w ∈ tables_1 from List.mem_append_right _ h)
theorem qs0 : (Cond.selects "MapReduceRun" ⟨"MapReduceRun", "failuresToCome", "()I"⟩ ⟨"MapReduceRun", "failuresToCome", "()I"⟩) ∈ lw_all := lw_g (lw_at lw_ms 0 rfl) rfl
theorem qs1 : (Cond.selects "MapReduceRun" ⟨"MapReduceRun", "mapSplit", "(I)V"⟩ ⟨"MapReduceRun", "mapSplit", "(I)V"⟩) ∈ lw_all := lw_g (lw_at lw_ms 1 rfl) rfl
theorem qs2 : (Cond.selects "MapReduceRun" ⟨"MapReduceRun", "mapRecord", "(I)V"⟩ ⟨"MapReduceRun", "mapRecord", "(I)V"⟩) ∈ lw_all := lw_g (lw_at lw_ms 2 rfl) rfl
theorem qs3 : (Cond.selects "MapReduceRun" ⟨"MapReduceRun", "spill", "()V"⟩ ⟨"MapReduceRun", "spill", "()V"⟩) ∈ lw_all := lw_g (lw_at lw_ms 3 rfl) rfl
theorem qs4 : (Cond.selects "MapReduceRun" ⟨"MapReduceRun", "sortBuffer", "()V"⟩ ⟨"MapReduceRun", "sortBuffer", "()V"⟩) ∈ lw_all := lw_g (lw_at lw_ms 4 rfl) rfl
theorem qs5 : (Cond.selects "MapReduceRun" ⟨"MapReduceRun", "comesAfter", "(II)Z"⟩ ⟨"MapReduceRun", "comesAfter", "(II)Z"⟩) ∈ lw_all := lw_g (lw_at lw_ms 5 rfl) rfl
theorem qs6 : (Cond.selects "MapReduceRun" ⟨"MapReduceRun", "combineBuffer", "()V"⟩ ⟨"MapReduceRun", "combineBuffer", "()V"⟩) ∈ lw_all := lw_g (lw_at lw_ms 6 rfl) rfl
theorem qs7 : (Cond.selects "MapReduceRun" ⟨"MapReduceRun", "combined", "(II)I"⟩ ⟨"MapReduceRun", "combined", "(II)I"⟩) ∈ lw_all := lw_g (lw_at lw_ms 7 rfl) rfl
theorem qs8 : (Cond.selects "MapReduceRun" ⟨"MapReduceRun", "reducePart", "(I)V"⟩ ⟨"MapReduceRun", "reducePart", "(I)V"⟩) ∈ lw_all := lw_g (lw_at lw_ms 8 rfl) rfl
theorem qs9 : (Cond.selects "MapReduceRun" ⟨"MapReduceRun", "openSpills", "(I)V"⟩ ⟨"MapReduceRun", "openSpills", "(I)V"⟩) ∈ lw_all := lw_g (lw_at lw_ms 9 rfl) rfl
theorem qs10 : (Cond.selects "MapReduceRun" ⟨"MapReduceRun", "leastHead", "()I"⟩ ⟨"MapReduceRun", "leastHead", "()I"⟩) ∈ lw_all := lw_g (lw_at lw_ms 10 rfl) rfl
theorem qs11 : (Cond.selects "MapReduceRun" ⟨"MapReduceRun", "reduceGroup", "(I)V"⟩ ⟨"MapReduceRun", "reduceGroup", "(I)V"⟩) ∈ lw_all := lw_g (lw_at lw_ms 11 rfl) rfl
theorem qs12 : (Cond.selects "MapReduceRun" ⟨"MapReduceRun", "isResult", "(II)Z"⟩ ⟨"MapReduceRun", "isResult", "(II)Z"⟩) ∈ lw_all := lw_g (lw_at lw_ms 12 rfl) rfl
theorem qs13 : (Cond.selects "MapReduceRunModel" ⟨"MapReduceRunModel", "counts", "(I)Z"⟩ ⟨"MapReduceRunModel", "counts", "(I)Z"⟩) ∈ lw_all := lw_g (lw_at lw_ms 13 rfl) rfl
theorem qs14 : (Cond.selects "MapReduceRunModel" ⟨"MapReduceRunModel", "reduce", "(II)I"⟩ ⟨"MapReduceRunModel", "reduce", "(II)I"⟩) ∈ lw_all := lw_g (lw_at lw_ms 14 rfl) rfl
theorem qs15 : (Cond.selects "MapReduceRunModel" ⟨"MapReduceRunModel", "keyOf", "(I)I"⟩ ⟨"MapReduceRunModel", "keyOf", "(I)I"⟩) ∈ lw_all := lw_g (lw_at lw_ms 15 rfl) rfl
end
section
/-! MapReduceRunLaw -/
set_option maxRecDepth 100000
def RX0 : String := "MapReduceRunLaw"
abbrev cX0_cell : ByteArray := method_2_code
def yX0_cell : MethodName := ⟨RX0, "cell", "([II)I"⟩
theorem q16 : (Jvm.Cond.initialized "MapReduceRunLaw") ∈ lw_all := lw_g (lw_at lw_m1 0 rfl) rfl
theorem q19 : (Jvm.Cond.classLink "MapReduceRunLaw" (7 : Nat) "MapReduceRun") ∈ lw_all := lw_g (lw_at lw_m1 3 rfl) rfl
theorem q21 : (Jvm.Cond.methodLink "MapReduceRunLaw" (15 : Nat) ({ cls := "MapReduceRun", name := "<init>", desc := "(II)V" } : Jvm.MethodName)) ∈ lw_all := lw_g (lw_at lw_m1 5 rfl) rfl
theorem q116 : (Jvm.Cond.methodLink "MapReduceRunLaw" (21 : Nat) ({ cls := "MapReduceRun", name := "addRecord", desc := "(III)I" } : Jvm.MethodName)) ∈ lw_all := lw_g (lw_at lw_m1 100 rfl) rfl
theorem q120 : (Jvm.Cond.methodLink "MapReduceRunLaw" (26 : Nat) ({ cls := "MapReduceRun", name := "mapping", desc := "(III)Z" } : Jvm.MethodName)) ∈ lw_all := lw_g (lw_at lw_m1 104 rfl) rfl
theorem q124 : (Jvm.Cond.methodLink "MapReduceRunLaw" (31 : Nat) ({ cls := "MapReduceRun", name := "bounds", desc := "(II)V" } : Jvm.MethodName)) ∈ lw_all := lw_g (lw_at lw_m1 108 rfl) rfl
theorem q128 : (Jvm.Cond.methodLink "MapReduceRunLaw" (35 : Nat) ({ cls := "MapReduceRun", name := "failures", desc := "(ZII)Z" } : Jvm.MethodName)) ∈ lw_all := lw_g (lw_at lw_m1 112 rfl) rfl
theorem q132 : (Jvm.Cond.methodLink "MapReduceRunLaw" (40 : Nat) ({ cls := "MapReduceRun", name := "run", desc := "(I)I" } : Jvm.MethodName)) ∈ lw_all := lw_g (lw_at lw_m1 116 rfl) rfl
theorem q184 : (Jvm.Cond.methodLink "MapReduceRunLaw" (45 : Nat) ({ cls := "MapReduceRun", name := "results", desc := "(I)I" } : Jvm.MethodName)) ∈ lw_all := lw_g (lw_at lw_m1 168 rfl) rfl
theorem q188 : (Jvm.Cond.methodLink "MapReduceRunLaw" (49 : Nat) ({ cls := "MapReduceRun", name := "keyAt", desc := "(II)I" } : Jvm.MethodName)) ∈ lw_all := lw_g (lw_at lw_m1 172 rfl) rfl
theorem q196 : (Jvm.Cond.methodLink "MapReduceRunLaw" (54 : Nat) ({ cls := "MapReduceRun", name := "valueAt", desc := "(II)I" } : Jvm.MethodName)) ∈ lw_all := lw_g (lw_at lw_m1 180 rfl) rfl
theorem q200 : (Jvm.Cond.methodLink "MapReduceRunLaw" (58 : Nat) ({ cls := "MapReduceRun", name := "mapped", desc := "()I" } : Jvm.MethodName)) ∈ lw_all := lw_g (lw_at lw_m1 184 rfl) rfl
theorem q204 : (Jvm.Cond.methodLink "MapReduceRunLaw" (63 : Nat) ({ cls := "MapReduceRun", name := "feedBack", desc := "()I" } : Jvm.MethodName)) ∈ lw_all := lw_g (lw_at lw_m1 188 rfl) rfl
theorem q208 : (Jvm.Cond.methodLink "MapReduceRunLaw" (67 : Nat) ({ cls := "MapReduceRun", name := "emptySplit", desc := "(I)I" } : Jvm.MethodName)) ∈ lw_all := lw_g (lw_at lw_m1 192 rfl) rfl
theorem q212 : (Jvm.Cond.methodLink "MapReduceRunLaw" (9 : Nat) ({ cls := "MapReduceRunLaw", name := "cell", desc := "([II)I" } : Jvm.MethodName)) ∈ lw_all := lw_g (lw_at lw_m1 196 rfl) rfl
theorem q213 : (Jvm.Cond.static ({ cls := "MapReduceRunLaw", name := "cell", desc := "([II)I" } : Jvm.MethodName)) ∈ lw_all := lw_g (lw_at lw_m1 197 rfl) rfl
theorem q214 : (Jvm.Cond.code ({ cls := "MapReduceRunLaw", name := "cell", desc := "([II)I" } : Jvm.MethodName) method_2_code (2 : Nat) (Option.some Jvm.ClassFile.FieldType.int)) ∈ lw_all := lw_g (lw_at lw_m1 198 rfl) rfl
theorem q215 : (Jvm.Cond.classLink "MapReduceRunLaw" (18 : Nat) "MapReduceRunModel") ∈ lw_all := lw_g (lw_at lw_m1 199 rfl) rfl
theorem q217 : (Jvm.Cond.methodLink "MapReduceRunLaw" (20 : Nat) ({ cls := "MapReduceRunModel", name := "<init>", desc := "(II)V" } : Jvm.MethodName)) ∈ lw_all := lw_g (lw_at lw_m1 201 rfl) rfl
theorem q264 : (Jvm.Cond.methodLink "MapReduceRunLaw" (25 : Nat) ({ cls := "MapReduceRunModel", name := "addRecord", desc := "(III)I" } : Jvm.MethodName)) ∈ lw_all := lw_g (lw_at lw_m2 8 rfl) rfl
theorem q268 : (Jvm.Cond.methodLink "MapReduceRunLaw" (30 : Nat) ({ cls := "MapReduceRunModel", name := "mapping", desc := "(III)Z" } : Jvm.MethodName)) ∈ lw_all := lw_g (lw_at lw_m2 12 rfl) rfl
theorem q272 : (Jvm.Cond.methodLink "MapReduceRunLaw" (34 : Nat) ({ cls := "MapReduceRunModel", name := "bounds", desc := "(II)V" } : Jvm.MethodName)) ∈ lw_all := lw_g (lw_at lw_m2 16 rfl) rfl
theorem q276 : (Jvm.Cond.methodLink "MapReduceRunLaw" (39 : Nat) ({ cls := "MapReduceRunModel", name := "failures", desc := "(ZII)Z" } : Jvm.MethodName)) ∈ lw_all := lw_g (lw_at lw_m2 20 rfl) rfl
theorem q280 : (Jvm.Cond.methodLink "MapReduceRunLaw" (44 : Nat) ({ cls := "MapReduceRunModel", name := "run", desc := "(I)I" } : Jvm.MethodName)) ∈ lw_all := lw_g (lw_at lw_m2 24 rfl) rfl
theorem q296 : (Jvm.Cond.methodLink "MapReduceRunLaw" (48 : Nat) ({ cls := "MapReduceRunModel", name := "results", desc := "(I)I" } : Jvm.MethodName)) ∈ lw_all := lw_g (lw_at lw_m2 40 rfl) rfl
theorem q300 : (Jvm.Cond.methodLink "MapReduceRunLaw" (53 : Nat) ({ cls := "MapReduceRunModel", name := "keyAt", desc := "(II)I" } : Jvm.MethodName)) ∈ lw_all := lw_g (lw_at lw_m2 44 rfl) rfl
theorem q304 : (Jvm.Cond.methodLink "MapReduceRunLaw" (57 : Nat) ({ cls := "MapReduceRunModel", name := "valueAt", desc := "(II)I" } : Jvm.MethodName)) ∈ lw_all := lw_g (lw_at lw_m2 48 rfl) rfl
theorem q309 : (Jvm.Cond.methodLink "MapReduceRunLaw" (62 : Nat) ({ cls := "MapReduceRunModel", name := "mapped", desc := "()I" } : Jvm.MethodName)) ∈ lw_all := lw_g (lw_at lw_m2 53 rfl) rfl
theorem q313 : (Jvm.Cond.methodLink "MapReduceRunLaw" (66 : Nat) ({ cls := "MapReduceRunModel", name := "feedBack", desc := "()I" } : Jvm.MethodName)) ∈ lw_all := lw_g (lw_at lw_m2 57 rfl) rfl
theorem q318 : (Jvm.Cond.methodLink "MapReduceRunLaw" (70 : Nat) ({ cls := "MapReduceRunModel", name := "emptySplit", desc := "(I)I" } : Jvm.MethodName)) ∈ lw_all := lw_g (lw_at lw_m2 62 rfl) rfl

/-! MapReduceRun -/
set_option maxRecDepth 100000
def RX1 : String := "MapReduceRun"
def TX1 : u_T := fun k => match k with
  | 0 => ("MapReduceRun", "partCount", "I", false)
  | 1 => ("MapReduceRun", "bufferSize", "I", false)
  | 2 => ("MapReduceRun", "recordCount", "[B", true)
  | 3 => ("MapReduceRun", "recordKey", "[I", true)
  | 4 => ("MapReduceRun", "recordValue", "[I", true)
  | 5 => ("MapReduceRun", "modulus", "I", false)
  | 6 => ("MapReduceRun", "factor", "I", false)
  | 7 => ("MapReduceRun", "offset", "I", false)
  | 8 => ("MapReduceRun", "lowest", "I", false)
  | 9 => ("MapReduceRun", "highest", "I", false)
  | 10 => ("MapReduceRun", "mapFailures", "[B", true)
  | 11 => ("MapReduceRun", "reduceFailures", "[B", true)
  | 12 => ("MapReduceRun", "reducer", "I", false)
  | 13 => ("MapReduceRun", "buffered", "I", false)
  | 14 => ("MapReduceRun", "bufferKey", "[B", true)
  | 15 => ("MapReduceRun", "bufferValue", "[I", true)
  | 16 => ("MapReduceRun", "mappedCount", "I", false)
  | 17 => ("MapReduceRun", "spillCount", "I", false)
  | 18 => ("MapReduceRun", "spillEnd", "I", false)
  | 19 => ("MapReduceRun", "spillKey", "[B", true)
  | 20 => ("MapReduceRun", "spillValue", "[I", true)
  | 21 => ("MapReduceRun", "partStart", "[B", true)
  | 22 => ("MapReduceRun", "head", "[B", true)
  | 23 => ("MapReduceRun", "limit", "[B", true)
  | 24 => ("MapReduceRun", "outputStart", "[B", true)
  | 25 => ("MapReduceRun", "outputKey", "[B", true)
  | 26 => ("MapReduceRun", "outputValue", "[I", true)
  | _ => ("MapReduceRun", "outputEnd", "I", false)
def tyX1 : Nat → FieldType := fun k => match k with
  | 0 => .int
  | 1 => .int
  | 2 => .array .byte
  | 3 => .array .int
  | 4 => .array .int
  | 5 => .int
  | 6 => .int
  | 7 => .int
  | 8 => .int
  | 9 => .int
  | 10 => .array .byte
  | 11 => .array .byte
  | 12 => .int
  | 13 => .int
  | 14 => .array .byte
  | 15 => .array .int
  | 16 => .int
  | 17 => .int
  | 18 => .int
  | 19 => .array .byte
  | 20 => .array .int
  | 21 => .array .byte
  | 22 => .array .byte
  | 23 => .array .byte
  | 24 => .array .byte
  | 25 => .array .byte
  | 26 => .array .int
  | _ => .int
abbrev wsX10 : List Cond := u_ws RX1 TX1 28
set_option maxRecDepth 100000 in
theorem nmX1 : ∀ a, a < 28 → ∀ b, b < 28 → a ≠ b → (TX1 a).2.1 ≠ (TX1 b).2.1 := by decide +kernel
set_option maxRecDepth 100000 in
theorem tyX1_ok : ∀ k, k < 28 → parseFieldDescriptor (TX1 k).2.2.1 = some (tyX1 k) := by decide +kernel
abbrev cX1_init : ByteArray := prog_1_method_1_code
def yX1_init : MethodName := ⟨RX1, "<init>", "(II)V"⟩
abbrev cX1_addRecord : ByteArray := prog_1_method_2_code
def yX1_addRecord : MethodName := ⟨RX1, "addRecord", "(III)I"⟩
abbrev cX1_mapping : ByteArray := prog_1_method_3_code
def yX1_mapping : MethodName := ⟨RX1, "mapping", "(III)Z"⟩
abbrev cX1_bounds : ByteArray := prog_1_method_4_code
def yX1_bounds : MethodName := ⟨RX1, "bounds", "(II)V"⟩
abbrev cX1_failures : ByteArray := prog_1_method_5_code
def yX1_failures : MethodName := ⟨RX1, "failures", "(ZII)Z"⟩
abbrev cX1_run : ByteArray := prog_1_method_6_code
def yX1_run : MethodName := ⟨RX1, "run", "(I)I"⟩
abbrev cX1_failuresToCome : ByteArray := prog_1_method_7_code
def yX1_failuresToCome : MethodName := ⟨RX1, "failuresToCome", "()I"⟩
abbrev cX1_mapSplit : ByteArray := prog_1_method_15_code
def yX1_mapSplit : MethodName := ⟨RX1, "mapSplit", "(I)V"⟩
abbrev cX1_mapRecord : ByteArray := prog_1_method_16_code
def yX1_mapRecord : MethodName := ⟨RX1, "mapRecord", "(I)V"⟩
abbrev cX1_spill : ByteArray := prog_1_method_17_code
def yX1_spill : MethodName := ⟨RX1, "spill", "()V"⟩
abbrev cX1_sortBuffer : ByteArray := prog_1_method_19_code
def yX1_sortBuffer : MethodName := ⟨RX1, "sortBuffer", "()V"⟩
abbrev cX1_comesAfter : ByteArray := prog_1_method_18_code
def yX1_comesAfter : MethodName := ⟨RX1, "comesAfter", "(II)Z"⟩
abbrev cX1_combineBuffer : ByteArray := prog_1_method_20_code
def yX1_combineBuffer : MethodName := ⟨RX1, "combineBuffer", "()V"⟩
abbrev cX1_combined : ByteArray := prog_1_method_21_code
def yX1_combined : MethodName := ⟨RX1, "combined", "(II)I"⟩
abbrev cX1_reducePart : ByteArray := prog_1_method_22_code
def yX1_reducePart : MethodName := ⟨RX1, "reducePart", "(I)V"⟩
abbrev cX1_openSpills : ByteArray := prog_1_method_23_code
def yX1_openSpills : MethodName := ⟨RX1, "openSpills", "(I)V"⟩
abbrev cX1_leastHead : ByteArray := prog_1_method_24_code
def yX1_leastHead : MethodName := ⟨RX1, "leastHead", "()I"⟩
abbrev cX1_reduceGroup : ByteArray := prog_1_method_25_code
def yX1_reduceGroup : MethodName := ⟨RX1, "reduceGroup", "(I)V"⟩
abbrev cX1_results : ByteArray := prog_1_method_8_code
def yX1_results : MethodName := ⟨RX1, "results", "(I)I"⟩
abbrev cX1_keyAt : ByteArray := prog_1_method_9_code
def yX1_keyAt : MethodName := ⟨RX1, "keyAt", "(II)I"⟩
abbrev cX1_isResult : ByteArray := prog_1_method_11_code
def yX1_isResult : MethodName := ⟨RX1, "isResult", "(II)Z"⟩
abbrev cX1_valueAt : ByteArray := prog_1_method_10_code
def yX1_valueAt : MethodName := ⟨RX1, "valueAt", "(II)I"⟩
abbrev cX1_mapped : ByteArray := prog_1_method_12_code
def yX1_mapped : MethodName := ⟨RX1, "mapped", "()I"⟩
abbrev cX1_feedBack : ByteArray := prog_1_method_13_code
def yX1_feedBack : MethodName := ⟨RX1, "feedBack", "()I"⟩
abbrev cX1_emptySplit : ByteArray := prog_1_method_14_code
def yX1_emptySplit : MethodName := ⟨RX1, "emptySplit", "(I)I"⟩
theorem q17 : (Jvm.Cond.initialized "MapReduceRun") ∈ lw_all := lw_g (lw_at lw_m1 1 rfl) rfl
theorem q20 : (Jvm.Cond.instantiable "MapReduceRun" (28 : Nat)) ∈ lw_all := lw_g (lw_at lw_m1 4 rfl) rfl
theorem q22 : (Jvm.Cond.instanceMethod ({ cls := "MapReduceRun", name := "<init>", desc := "(II)V" } : Jvm.MethodName)) ∈ lw_all := lw_g (lw_at lw_m1 6 rfl) rfl
theorem q23 : (Jvm.Cond.code ({ cls := "MapReduceRun", name := "<init>", desc := "(II)V" } : Jvm.MethodName) prog_1_method_1_code (3 : Nat) (Option.none : Option Jvm.ClassFile.FieldType)) ∈ lw_all := lw_g (lw_at lw_m1 7 rfl) rfl
theorem q24 : (Jvm.Cond.methodLink "MapReduceRun" (1 : Nat) ({ cls := "java/lang/Object", name := "<init>", desc := "()V" } : Jvm.MethodName)) ∈ lw_all := lw_g (lw_at lw_m1 8 rfl) rfl
theorem q27 : (Jvm.Cond.constant "MapReduceRun" (69 : Nat) (-2147483648 : Int32)) ∈ lw_all := lw_g (lw_at lw_m1 11 rfl) rfl
theorem q28 : (Jvm.Cond.constant "MapReduceRun" (73 : Nat) (2147483647 : Int32)) ∈ lw_all := lw_g (lw_at lw_m1 12 rfl) rfl
theorem q29 : (Jvm.Cond.fieldLink "MapReduceRun" (56 : Nat) "MapReduceRun" "partCount" "I") ∈ lw_all := lw_g (lw_at lw_m1 13 rfl) rfl
theorem q30 : (Jvm.Cond.fieldLink "MapReduceRun" (60 : Nat) "MapReduceRun" "bufferSize" "I") ∈ lw_all := lw_g (lw_at lw_m1 14 rfl) rfl
theorem q31 : (Jvm.Cond.fieldLink "MapReduceRun" (7 : Nat) "MapReduceRun" "recordCount" "[B") ∈ lw_all := lw_g (lw_at lw_m1 15 rfl) rfl
theorem q32 : (Jvm.Cond.fieldLink "MapReduceRun" (13 : Nat) "MapReduceRun" "recordKey" "[I") ∈ lw_all := lw_g (lw_at lw_m1 16 rfl) rfl
theorem q33 : (Jvm.Cond.fieldLink "MapReduceRun" (17 : Nat) "MapReduceRun" "recordValue" "[I") ∈ lw_all := lw_g (lw_at lw_m1 17 rfl) rfl
theorem q34 : (Jvm.Cond.fieldLink "MapReduceRun" (63 : Nat) "MapReduceRun" "modulus" "I") ∈ lw_all := lw_g (lw_at lw_m1 18 rfl) rfl
theorem q35 : (Jvm.Cond.fieldLink "MapReduceRun" (66 : Nat) "MapReduceRun" "factor" "I") ∈ lw_all := lw_g (lw_at lw_m1 19 rfl) rfl
theorem q36 : (Jvm.Cond.fieldLink "MapReduceRun" (77 : Nat) "MapReduceRun" "offset" "I") ∈ lw_all := lw_g (lw_at lw_m1 20 rfl) rfl
theorem q37 : (Jvm.Cond.fieldLink "MapReduceRun" (70 : Nat) "MapReduceRun" "lowest" "I") ∈ lw_all := lw_g (lw_at lw_m1 21 rfl) rfl
theorem q38 : (Jvm.Cond.fieldLink "MapReduceRun" (74 : Nat) "MapReduceRun" "highest" "I") ∈ lw_all := lw_g (lw_at lw_m1 22 rfl) rfl
theorem q39 : (Jvm.Cond.fieldLink "MapReduceRun" (20 : Nat) "MapReduceRun" "mapFailures" "[B") ∈ lw_all := lw_g (lw_at lw_m1 23 rfl) rfl
theorem q40 : (Jvm.Cond.fieldLink "MapReduceRun" (23 : Nat) "MapReduceRun" "reduceFailures" "[B") ∈ lw_all := lw_g (lw_at lw_m1 24 rfl) rfl
theorem q41 : (Jvm.Cond.fieldLink "MapReduceRun" (80 : Nat) "MapReduceRun" "reducer" "I") ∈ lw_all := lw_g (lw_at lw_m1 25 rfl) rfl
theorem q42 : (Jvm.Cond.fieldLink "MapReduceRun" (110 : Nat) "MapReduceRun" "buffered" "I") ∈ lw_all := lw_g (lw_at lw_m1 26 rfl) rfl
theorem q43 : (Jvm.Cond.fieldLink "MapReduceRun" (26 : Nat) "MapReduceRun" "bufferKey" "[B") ∈ lw_all := lw_g (lw_at lw_m1 27 rfl) rfl
theorem q44 : (Jvm.Cond.fieldLink "MapReduceRun" (29 : Nat) "MapReduceRun" "bufferValue" "[I") ∈ lw_all := lw_g (lw_at lw_m1 28 rfl) rfl
theorem q45 : (Jvm.Cond.fieldLink "MapReduceRun" (87 : Nat) "MapReduceRun" "mappedCount" "I") ∈ lw_all := lw_g (lw_at lw_m1 29 rfl) rfl
theorem q46 : (Jvm.Cond.fieldLink "MapReduceRun" (90 : Nat) "MapReduceRun" "spillCount" "I") ∈ lw_all := lw_g (lw_at lw_m1 30 rfl) rfl
theorem q47 : (Jvm.Cond.fieldLink "MapReduceRun" (93 : Nat) "MapReduceRun" "spillEnd" "I") ∈ lw_all := lw_g (lw_at lw_m1 31 rfl) rfl
theorem q48 : (Jvm.Cond.fieldLink "MapReduceRun" (32 : Nat) "MapReduceRun" "spillKey" "[B") ∈ lw_all := lw_g (lw_at lw_m1 32 rfl) rfl
theorem q49 : (Jvm.Cond.fieldLink "MapReduceRun" (35 : Nat) "MapReduceRun" "spillValue" "[I") ∈ lw_all := lw_g (lw_at lw_m1 33 rfl) rfl
theorem q50 : (Jvm.Cond.fieldLink "MapReduceRun" (38 : Nat) "MapReduceRun" "partStart" "[B") ∈ lw_all := lw_g (lw_at lw_m1 34 rfl) rfl
theorem q51 : (Jvm.Cond.fieldLink "MapReduceRun" (41 : Nat) "MapReduceRun" "head" "[B") ∈ lw_all := lw_g (lw_at lw_m1 35 rfl) rfl
theorem q52 : (Jvm.Cond.fieldLink "MapReduceRun" (44 : Nat) "MapReduceRun" "limit" "[B") ∈ lw_all := lw_g (lw_at lw_m1 36 rfl) rfl
theorem q53 : (Jvm.Cond.fieldLink "MapReduceRun" (47 : Nat) "MapReduceRun" "outputStart" "[B") ∈ lw_all := lw_g (lw_at lw_m1 37 rfl) rfl
theorem q54 : (Jvm.Cond.fieldLink "MapReduceRun" (50 : Nat) "MapReduceRun" "outputKey" "[B") ∈ lw_all := lw_g (lw_at lw_m1 38 rfl) rfl
theorem q55 : (Jvm.Cond.fieldLink "MapReduceRun" (53 : Nat) "MapReduceRun" "outputValue" "[I") ∈ lw_all := lw_g (lw_at lw_m1 39 rfl) rfl
theorem q56 : (Jvm.Cond.fieldLink "MapReduceRun" (100 : Nat) "MapReduceRun" "outputEnd" "I") ∈ lw_all := lw_g (lw_at lw_m1 40 rfl) rfl
theorem q57 : (Jvm.Cond.lays "MapReduceRun" "MapReduceRun" "partCount" "I") ∈ lw_all := lw_g (lw_at lw_m1 41 rfl) rfl
theorem q58 : (Jvm.Cond.soleField "MapReduceRun" "partCount") ∈ lw_all := lw_g (lw_at lw_m1 42 rfl) rfl
theorem q59 : (Jvm.Cond.lays "MapReduceRun" "MapReduceRun" "bufferSize" "I") ∈ lw_all := lw_g (lw_at lw_m1 43 rfl) rfl
theorem q60 : (Jvm.Cond.soleField "MapReduceRun" "bufferSize") ∈ lw_all := lw_g (lw_at lw_m1 44 rfl) rfl
theorem q61 : (Jvm.Cond.laysFinal "MapReduceRun" "MapReduceRun" "recordCount" "[B") ∈ lw_all := lw_g (lw_at lw_m1 45 rfl) rfl
theorem q62 : (Jvm.Cond.soleField "MapReduceRun" "recordCount") ∈ lw_all := lw_g (lw_at lw_m1 46 rfl) rfl
theorem q63 : (Jvm.Cond.laysFinal "MapReduceRun" "MapReduceRun" "recordKey" "[I") ∈ lw_all := lw_g (lw_at lw_m1 47 rfl) rfl
theorem q64 : (Jvm.Cond.soleField "MapReduceRun" "recordKey") ∈ lw_all := lw_g (lw_at lw_m1 48 rfl) rfl
theorem q65 : (Jvm.Cond.laysFinal "MapReduceRun" "MapReduceRun" "recordValue" "[I") ∈ lw_all := lw_g (lw_at lw_m1 49 rfl) rfl
theorem q66 : (Jvm.Cond.soleField "MapReduceRun" "recordValue") ∈ lw_all := lw_g (lw_at lw_m1 50 rfl) rfl
theorem q67 : (Jvm.Cond.lays "MapReduceRun" "MapReduceRun" "modulus" "I") ∈ lw_all := lw_g (lw_at lw_m1 51 rfl) rfl
theorem q68 : (Jvm.Cond.soleField "MapReduceRun" "modulus") ∈ lw_all := lw_g (lw_at lw_m1 52 rfl) rfl
theorem q69 : (Jvm.Cond.lays "MapReduceRun" "MapReduceRun" "factor" "I") ∈ lw_all := lw_g (lw_at lw_m1 53 rfl) rfl
theorem q70 : (Jvm.Cond.soleField "MapReduceRun" "factor") ∈ lw_all := lw_g (lw_at lw_m1 54 rfl) rfl
theorem q71 : (Jvm.Cond.lays "MapReduceRun" "MapReduceRun" "offset" "I") ∈ lw_all := lw_g (lw_at lw_m1 55 rfl) rfl
theorem q72 : (Jvm.Cond.soleField "MapReduceRun" "offset") ∈ lw_all := lw_g (lw_at lw_m1 56 rfl) rfl
theorem q73 : (Jvm.Cond.lays "MapReduceRun" "MapReduceRun" "lowest" "I") ∈ lw_all := lw_g (lw_at lw_m1 57 rfl) rfl
theorem q74 : (Jvm.Cond.soleField "MapReduceRun" "lowest") ∈ lw_all := lw_g (lw_at lw_m1 58 rfl) rfl
theorem q75 : (Jvm.Cond.lays "MapReduceRun" "MapReduceRun" "highest" "I") ∈ lw_all := lw_g (lw_at lw_m1 59 rfl) rfl
theorem q76 : (Jvm.Cond.soleField "MapReduceRun" "highest") ∈ lw_all := lw_g (lw_at lw_m1 60 rfl) rfl
theorem q77 : (Jvm.Cond.laysFinal "MapReduceRun" "MapReduceRun" "mapFailures" "[B") ∈ lw_all := lw_g (lw_at lw_m1 61 rfl) rfl
theorem q78 : (Jvm.Cond.soleField "MapReduceRun" "mapFailures") ∈ lw_all := lw_g (lw_at lw_m1 62 rfl) rfl
theorem q79 : (Jvm.Cond.laysFinal "MapReduceRun" "MapReduceRun" "reduceFailures" "[B") ∈ lw_all := lw_g (lw_at lw_m1 63 rfl) rfl
theorem q80 : (Jvm.Cond.soleField "MapReduceRun" "reduceFailures") ∈ lw_all := lw_g (lw_at lw_m1 64 rfl) rfl
theorem q81 : (Jvm.Cond.lays "MapReduceRun" "MapReduceRun" "reducer" "I") ∈ lw_all := lw_g (lw_at lw_m1 65 rfl) rfl
theorem q82 : (Jvm.Cond.soleField "MapReduceRun" "reducer") ∈ lw_all := lw_g (lw_at lw_m1 66 rfl) rfl
theorem q83 : (Jvm.Cond.lays "MapReduceRun" "MapReduceRun" "buffered" "I") ∈ lw_all := lw_g (lw_at lw_m1 67 rfl) rfl
theorem q84 : (Jvm.Cond.soleField "MapReduceRun" "buffered") ∈ lw_all := lw_g (lw_at lw_m1 68 rfl) rfl
theorem q85 : (Jvm.Cond.laysFinal "MapReduceRun" "MapReduceRun" "bufferKey" "[B") ∈ lw_all := lw_g (lw_at lw_m1 69 rfl) rfl
theorem q86 : (Jvm.Cond.soleField "MapReduceRun" "bufferKey") ∈ lw_all := lw_g (lw_at lw_m1 70 rfl) rfl
theorem q87 : (Jvm.Cond.laysFinal "MapReduceRun" "MapReduceRun" "bufferValue" "[I") ∈ lw_all := lw_g (lw_at lw_m1 71 rfl) rfl
theorem q88 : (Jvm.Cond.soleField "MapReduceRun" "bufferValue") ∈ lw_all := lw_g (lw_at lw_m1 72 rfl) rfl
theorem q89 : (Jvm.Cond.lays "MapReduceRun" "MapReduceRun" "mappedCount" "I") ∈ lw_all := lw_g (lw_at lw_m1 73 rfl) rfl
theorem q90 : (Jvm.Cond.soleField "MapReduceRun" "mappedCount") ∈ lw_all := lw_g (lw_at lw_m1 74 rfl) rfl
theorem q91 : (Jvm.Cond.lays "MapReduceRun" "MapReduceRun" "spillCount" "I") ∈ lw_all := lw_g (lw_at lw_m1 75 rfl) rfl
theorem q92 : (Jvm.Cond.soleField "MapReduceRun" "spillCount") ∈ lw_all := lw_g (lw_at lw_m1 76 rfl) rfl
theorem q93 : (Jvm.Cond.lays "MapReduceRun" "MapReduceRun" "spillEnd" "I") ∈ lw_all := lw_g (lw_at lw_m1 77 rfl) rfl
theorem q94 : (Jvm.Cond.soleField "MapReduceRun" "spillEnd") ∈ lw_all := lw_g (lw_at lw_m1 78 rfl) rfl
theorem q95 : (Jvm.Cond.laysFinal "MapReduceRun" "MapReduceRun" "spillKey" "[B") ∈ lw_all := lw_g (lw_at lw_m1 79 rfl) rfl
theorem q96 : (Jvm.Cond.soleField "MapReduceRun" "spillKey") ∈ lw_all := lw_g (lw_at lw_m1 80 rfl) rfl
theorem q97 : (Jvm.Cond.laysFinal "MapReduceRun" "MapReduceRun" "spillValue" "[I") ∈ lw_all := lw_g (lw_at lw_m1 81 rfl) rfl
theorem q98 : (Jvm.Cond.soleField "MapReduceRun" "spillValue") ∈ lw_all := lw_g (lw_at lw_m1 82 rfl) rfl
theorem q99 : (Jvm.Cond.laysFinal "MapReduceRun" "MapReduceRun" "partStart" "[B") ∈ lw_all := lw_g (lw_at lw_m1 83 rfl) rfl
theorem q100 : (Jvm.Cond.soleField "MapReduceRun" "partStart") ∈ lw_all := lw_g (lw_at lw_m1 84 rfl) rfl
theorem q101 : (Jvm.Cond.laysFinal "MapReduceRun" "MapReduceRun" "head" "[B") ∈ lw_all := lw_g (lw_at lw_m1 85 rfl) rfl
theorem q102 : (Jvm.Cond.soleField "MapReduceRun" "head") ∈ lw_all := lw_g (lw_at lw_m1 86 rfl) rfl
theorem q103 : (Jvm.Cond.laysFinal "MapReduceRun" "MapReduceRun" "limit" "[B") ∈ lw_all := lw_g (lw_at lw_m1 87 rfl) rfl
theorem q104 : (Jvm.Cond.soleField "MapReduceRun" "limit") ∈ lw_all := lw_g (lw_at lw_m1 88 rfl) rfl
theorem q105 : (Jvm.Cond.laysFinal "MapReduceRun" "MapReduceRun" "outputStart" "[B") ∈ lw_all := lw_g (lw_at lw_m1 89 rfl) rfl
theorem q106 : (Jvm.Cond.soleField "MapReduceRun" "outputStart") ∈ lw_all := lw_g (lw_at lw_m1 90 rfl) rfl
theorem q107 : (Jvm.Cond.laysFinal "MapReduceRun" "MapReduceRun" "outputKey" "[B") ∈ lw_all := lw_g (lw_at lw_m1 91 rfl) rfl
theorem q108 : (Jvm.Cond.soleField "MapReduceRun" "outputKey") ∈ lw_all := lw_g (lw_at lw_m1 92 rfl) rfl
theorem q109 : (Jvm.Cond.laysFinal "MapReduceRun" "MapReduceRun" "outputValue" "[I") ∈ lw_all := lw_g (lw_at lw_m1 93 rfl) rfl
theorem q110 : (Jvm.Cond.soleField "MapReduceRun" "outputValue") ∈ lw_all := lw_g (lw_at lw_m1 94 rfl) rfl
theorem q111 : (Jvm.Cond.lays "MapReduceRun" "MapReduceRun" "outputEnd" "I") ∈ lw_all := lw_g (lw_at lw_m1 95 rfl) rfl
theorem q112 : (Jvm.Cond.soleField "MapReduceRun" "outputEnd") ∈ lw_all := lw_g (lw_at lw_m1 96 rfl) rfl
theorem q113 : (Jvm.Cond.superclass "MapReduceRun" "java/lang/Object") ∈ lw_all := lw_g (lw_at lw_m1 97 rfl) rfl
theorem q117 : (Jvm.Cond.instanceMethod ({ cls := "MapReduceRun", name := "addRecord", desc := "(III)I" } : Jvm.MethodName)) ∈ lw_all := lw_g (lw_at lw_m1 101 rfl) rfl
theorem q118 : (Jvm.Cond.selects "MapReduceRun" ({ cls := "MapReduceRun", name := "addRecord", desc := "(III)I" } : Jvm.MethodName) ({ cls := "MapReduceRun", name := "addRecord", desc := "(III)I" } : Jvm.MethodName)) ∈ lw_all := lw_g (lw_at lw_m1 102 rfl) rfl
theorem q119 : (Jvm.Cond.code ({ cls := "MapReduceRun", name := "addRecord", desc := "(III)I" } : Jvm.MethodName) prog_1_method_2_code (5 : Nat) (Option.some Jvm.ClassFile.FieldType.int)) ∈ lw_all := lw_g (lw_at lw_m1 103 rfl) rfl
theorem q121 : (Jvm.Cond.instanceMethod ({ cls := "MapReduceRun", name := "mapping", desc := "(III)Z" } : Jvm.MethodName)) ∈ lw_all := lw_g (lw_at lw_m1 105 rfl) rfl
theorem q122 : (Jvm.Cond.selects "MapReduceRun" ({ cls := "MapReduceRun", name := "mapping", desc := "(III)Z" } : Jvm.MethodName) ({ cls := "MapReduceRun", name := "mapping", desc := "(III)Z" } : Jvm.MethodName)) ∈ lw_all := lw_g (lw_at lw_m1 106 rfl) rfl
theorem q123 : (Jvm.Cond.code ({ cls := "MapReduceRun", name := "mapping", desc := "(III)Z" } : Jvm.MethodName) prog_1_method_3_code (4 : Nat) (Option.some Jvm.ClassFile.FieldType.boolean)) ∈ lw_all := lw_g (lw_at lw_m1 107 rfl) rfl
theorem q125 : (Jvm.Cond.instanceMethod ({ cls := "MapReduceRun", name := "bounds", desc := "(II)V" } : Jvm.MethodName)) ∈ lw_all := lw_g (lw_at lw_m1 109 rfl) rfl
theorem q126 : (Jvm.Cond.selects "MapReduceRun" ({ cls := "MapReduceRun", name := "bounds", desc := "(II)V" } : Jvm.MethodName) ({ cls := "MapReduceRun", name := "bounds", desc := "(II)V" } : Jvm.MethodName)) ∈ lw_all := lw_g (lw_at lw_m1 110 rfl) rfl
theorem q127 : (Jvm.Cond.code ({ cls := "MapReduceRun", name := "bounds", desc := "(II)V" } : Jvm.MethodName) prog_1_method_4_code (3 : Nat) (Option.none : Option Jvm.ClassFile.FieldType)) ∈ lw_all := lw_g (lw_at lw_m1 111 rfl) rfl
theorem q129 : (Jvm.Cond.instanceMethod ({ cls := "MapReduceRun", name := "failures", desc := "(ZII)Z" } : Jvm.MethodName)) ∈ lw_all := lw_g (lw_at lw_m1 113 rfl) rfl
theorem q130 : (Jvm.Cond.selects "MapReduceRun" ({ cls := "MapReduceRun", name := "failures", desc := "(ZII)Z" } : Jvm.MethodName) ({ cls := "MapReduceRun", name := "failures", desc := "(ZII)Z" } : Jvm.MethodName)) ∈ lw_all := lw_g (lw_at lw_m1 114 rfl) rfl
theorem q131 : (Jvm.Cond.code ({ cls := "MapReduceRun", name := "failures", desc := "(ZII)Z" } : Jvm.MethodName) prog_1_method_5_code (4 : Nat) (Option.some Jvm.ClassFile.FieldType.boolean)) ∈ lw_all := lw_g (lw_at lw_m1 115 rfl) rfl
theorem q133 : (Jvm.Cond.instanceMethod ({ cls := "MapReduceRun", name := "run", desc := "(I)I" } : Jvm.MethodName)) ∈ lw_all := lw_g (lw_at lw_m1 117 rfl) rfl
theorem q134 : (Jvm.Cond.selects "MapReduceRun" ({ cls := "MapReduceRun", name := "run", desc := "(I)I" } : Jvm.MethodName) ({ cls := "MapReduceRun", name := "run", desc := "(I)I" } : Jvm.MethodName)) ∈ lw_all := lw_g (lw_at lw_m1 118 rfl) rfl
theorem q135 : (Jvm.Cond.code ({ cls := "MapReduceRun", name := "run", desc := "(I)I" } : Jvm.MethodName) prog_1_method_6_code (4 : Nat) (Option.some Jvm.ClassFile.FieldType.int)) ∈ lw_all := lw_g (lw_at lw_m1 119 rfl) rfl
theorem q136 : (Jvm.Cond.methodLink "MapReduceRun" (83 : Nat) ({ cls := "MapReduceRun", name := "failuresToCome", desc := "()I" } : Jvm.MethodName)) ∈ lw_all := lw_g (lw_at lw_m1 120 rfl) rfl
theorem q137 : (Jvm.Cond.privateMethod ({ cls := "MapReduceRun", name := "failuresToCome", desc := "()I" } : Jvm.MethodName)) ∈ lw_tbl := lw_at lw_m1 121 rfl
theorem q138 : (Jvm.Cond.instanceMethod ({ cls := "MapReduceRun", name := "failuresToCome", desc := "()I" } : Jvm.MethodName)) ∈ lw_all := lw_g (lw_at lw_m1 122 rfl) rfl
theorem q139 : (Jvm.Cond.code ({ cls := "MapReduceRun", name := "failuresToCome", desc := "()I" } : Jvm.MethodName) prog_1_method_7_code (3 : Nat) (Option.some Jvm.ClassFile.FieldType.int)) ∈ lw_all := lw_g (lw_at lw_m1 123 rfl) rfl
theorem q140 : (Jvm.Cond.methodLink "MapReduceRun" (96 : Nat) ({ cls := "MapReduceRun", name := "mapSplit", desc := "(I)V" } : Jvm.MethodName)) ∈ lw_all := lw_g (lw_at lw_m1 124 rfl) rfl
theorem q141 : (Jvm.Cond.privateMethod ({ cls := "MapReduceRun", name := "mapSplit", desc := "(I)V" } : Jvm.MethodName)) ∈ lw_tbl := lw_at lw_m1 125 rfl
theorem q142 : (Jvm.Cond.instanceMethod ({ cls := "MapReduceRun", name := "mapSplit", desc := "(I)V" } : Jvm.MethodName)) ∈ lw_all := lw_g (lw_at lw_m1 126 rfl) rfl
theorem q143 : (Jvm.Cond.code ({ cls := "MapReduceRun", name := "mapSplit", desc := "(I)V" } : Jvm.MethodName) prog_1_method_15_code (8 : Nat) (Option.none : Option Jvm.ClassFile.FieldType)) ∈ lw_all := lw_g (lw_at lw_m1 127 rfl) rfl
theorem q144 : (Jvm.Cond.methodLink "MapReduceRun" (113 : Nat) ({ cls := "MapReduceRun", name := "mapRecord", desc := "(I)V" } : Jvm.MethodName)) ∈ lw_all := lw_g (lw_at lw_m1 128 rfl) rfl
theorem q145 : (Jvm.Cond.privateMethod ({ cls := "MapReduceRun", name := "mapRecord", desc := "(I)V" } : Jvm.MethodName)) ∈ lw_tbl := lw_at lw_m1 129 rfl
theorem q146 : (Jvm.Cond.instanceMethod ({ cls := "MapReduceRun", name := "mapRecord", desc := "(I)V" } : Jvm.MethodName)) ∈ lw_all := lw_g (lw_at lw_m1 130 rfl) rfl
theorem q147 : (Jvm.Cond.code ({ cls := "MapReduceRun", name := "mapRecord", desc := "(I)V" } : Jvm.MethodName) prog_1_method_16_code (4 : Nat) (Option.none : Option Jvm.ClassFile.FieldType)) ∈ lw_all := lw_g (lw_at lw_m1 131 rfl) rfl
theorem q148 : (Jvm.Cond.methodLink "MapReduceRun" (116 : Nat) ({ cls := "MapReduceRun", name := "spill", desc := "()V" } : Jvm.MethodName)) ∈ lw_all := lw_g (lw_at lw_m1 132 rfl) rfl
theorem q149 : (Jvm.Cond.privateMethod ({ cls := "MapReduceRun", name := "spill", desc := "()V" } : Jvm.MethodName)) ∈ lw_tbl := lw_at lw_m1 133 rfl
theorem q150 : (Jvm.Cond.instanceMethod ({ cls := "MapReduceRun", name := "spill", desc := "()V" } : Jvm.MethodName)) ∈ lw_all := lw_g (lw_at lw_m1 134 rfl) rfl
theorem q151 : (Jvm.Cond.code ({ cls := "MapReduceRun", name := "spill", desc := "()V" } : Jvm.MethodName) prog_1_method_17_code (3 : Nat) (Option.none : Option Jvm.ClassFile.FieldType)) ∈ lw_all := lw_g (lw_at lw_m1 135 rfl) rfl
theorem q152 : (Jvm.Cond.methodLink "MapReduceRun" (119 : Nat) ({ cls := "MapReduceRun", name := "sortBuffer", desc := "()V" } : Jvm.MethodName)) ∈ lw_all := lw_g (lw_at lw_m1 136 rfl) rfl
theorem q153 : (Jvm.Cond.privateMethod ({ cls := "MapReduceRun", name := "sortBuffer", desc := "()V" } : Jvm.MethodName)) ∈ lw_tbl := lw_at lw_m1 137 rfl
theorem q154 : (Jvm.Cond.instanceMethod ({ cls := "MapReduceRun", name := "sortBuffer", desc := "()V" } : Jvm.MethodName)) ∈ lw_all := lw_g (lw_at lw_m1 138 rfl) rfl
theorem q155 : (Jvm.Cond.code ({ cls := "MapReduceRun", name := "sortBuffer", desc := "()V" } : Jvm.MethodName) prog_1_method_19_code (5 : Nat) (Option.none : Option Jvm.ClassFile.FieldType)) ∈ lw_all := lw_g (lw_at lw_m1 139 rfl) rfl
theorem q156 : (Jvm.Cond.methodLink "MapReduceRun" (125 : Nat) ({ cls := "MapReduceRun", name := "comesAfter", desc := "(II)Z" } : Jvm.MethodName)) ∈ lw_all := lw_g (lw_at lw_m1 140 rfl) rfl
theorem q157 : (Jvm.Cond.privateMethod ({ cls := "MapReduceRun", name := "comesAfter", desc := "(II)Z" } : Jvm.MethodName)) ∈ lw_tbl := lw_at lw_m1 141 rfl
theorem q158 : (Jvm.Cond.instanceMethod ({ cls := "MapReduceRun", name := "comesAfter", desc := "(II)Z" } : Jvm.MethodName)) ∈ lw_all := lw_g (lw_at lw_m1 142 rfl) rfl
theorem q159 : (Jvm.Cond.code ({ cls := "MapReduceRun", name := "comesAfter", desc := "(II)Z" } : Jvm.MethodName) prog_1_method_18_code (5 : Nat) (Option.some Jvm.ClassFile.FieldType.boolean)) ∈ lw_all := lw_g (lw_at lw_m1 143 rfl) rfl
theorem q160 : (Jvm.Cond.methodLink "MapReduceRun" (122 : Nat) ({ cls := "MapReduceRun", name := "combineBuffer", desc := "()V" } : Jvm.MethodName)) ∈ lw_all := lw_g (lw_at lw_m1 144 rfl) rfl
theorem q161 : (Jvm.Cond.privateMethod ({ cls := "MapReduceRun", name := "combineBuffer", desc := "()V" } : Jvm.MethodName)) ∈ lw_tbl := lw_at lw_m1 145 rfl
theorem q162 : (Jvm.Cond.instanceMethod ({ cls := "MapReduceRun", name := "combineBuffer", desc := "()V" } : Jvm.MethodName)) ∈ lw_all := lw_g (lw_at lw_m1 146 rfl) rfl
theorem q163 : (Jvm.Cond.code ({ cls := "MapReduceRun", name := "combineBuffer", desc := "()V" } : Jvm.MethodName) prog_1_method_20_code (3 : Nat) (Option.none : Option Jvm.ClassFile.FieldType)) ∈ lw_all := lw_g (lw_at lw_m1 147 rfl) rfl
theorem q164 : (Jvm.Cond.methodLink "MapReduceRun" (128 : Nat) ({ cls := "MapReduceRun", name := "combined", desc := "(II)I" } : Jvm.MethodName)) ∈ lw_all := lw_g (lw_at lw_m1 148 rfl) rfl
theorem q165 : (Jvm.Cond.privateMethod ({ cls := "MapReduceRun", name := "combined", desc := "(II)I" } : Jvm.MethodName)) ∈ lw_tbl := lw_at lw_m1 149 rfl
theorem q166 : (Jvm.Cond.instanceMethod ({ cls := "MapReduceRun", name := "combined", desc := "(II)I" } : Jvm.MethodName)) ∈ lw_all := lw_g (lw_at lw_m1 150 rfl) rfl
theorem q167 : (Jvm.Cond.code ({ cls := "MapReduceRun", name := "combined", desc := "(II)I" } : Jvm.MethodName) prog_1_method_21_code (3 : Nat) (Option.some Jvm.ClassFile.FieldType.int)) ∈ lw_all := lw_g (lw_at lw_m1 151 rfl) rfl
theorem q168 : (Jvm.Cond.methodLink "MapReduceRun" (103 : Nat) ({ cls := "MapReduceRun", name := "reducePart", desc := "(I)V" } : Jvm.MethodName)) ∈ lw_all := lw_g (lw_at lw_m1 152 rfl) rfl
theorem q169 : (Jvm.Cond.privateMethod ({ cls := "MapReduceRun", name := "reducePart", desc := "(I)V" } : Jvm.MethodName)) ∈ lw_tbl := lw_at lw_m1 153 rfl
theorem q170 : (Jvm.Cond.instanceMethod ({ cls := "MapReduceRun", name := "reducePart", desc := "(I)V" } : Jvm.MethodName)) ∈ lw_all := lw_g (lw_at lw_m1 154 rfl) rfl
theorem q171 : (Jvm.Cond.code ({ cls := "MapReduceRun", name := "reducePart", desc := "(I)V" } : Jvm.MethodName) prog_1_method_22_code (6 : Nat) (Option.none : Option Jvm.ClassFile.FieldType)) ∈ lw_all := lw_g (lw_at lw_m1 155 rfl) rfl
theorem q172 : (Jvm.Cond.methodLink "MapReduceRun" (132 : Nat) ({ cls := "MapReduceRun", name := "openSpills", desc := "(I)V" } : Jvm.MethodName)) ∈ lw_all := lw_g (lw_at lw_m1 156 rfl) rfl
theorem q173 : (Jvm.Cond.privateMethod ({ cls := "MapReduceRun", name := "openSpills", desc := "(I)V" } : Jvm.MethodName)) ∈ lw_tbl := lw_at lw_m1 157 rfl
theorem q174 : (Jvm.Cond.instanceMethod ({ cls := "MapReduceRun", name := "openSpills", desc := "(I)V" } : Jvm.MethodName)) ∈ lw_all := lw_g (lw_at lw_m1 158 rfl) rfl
theorem q175 : (Jvm.Cond.code ({ cls := "MapReduceRun", name := "openSpills", desc := "(I)V" } : Jvm.MethodName) prog_1_method_23_code (3 : Nat) (Option.none : Option Jvm.ClassFile.FieldType)) ∈ lw_all := lw_g (lw_at lw_m1 159 rfl) rfl
theorem q176 : (Jvm.Cond.methodLink "MapReduceRun" (135 : Nat) ({ cls := "MapReduceRun", name := "leastHead", desc := "()I" } : Jvm.MethodName)) ∈ lw_all := lw_g (lw_at lw_m1 160 rfl) rfl
theorem q177 : (Jvm.Cond.privateMethod ({ cls := "MapReduceRun", name := "leastHead", desc := "()I" } : Jvm.MethodName)) ∈ lw_tbl := lw_at lw_m1 161 rfl
theorem q178 : (Jvm.Cond.instanceMethod ({ cls := "MapReduceRun", name := "leastHead", desc := "()I" } : Jvm.MethodName)) ∈ lw_all := lw_g (lw_at lw_m1 162 rfl) rfl
theorem q179 : (Jvm.Cond.code ({ cls := "MapReduceRun", name := "leastHead", desc := "()I" } : Jvm.MethodName) prog_1_method_24_code (4 : Nat) (Option.some Jvm.ClassFile.FieldType.int)) ∈ lw_all := lw_g (lw_at lw_m1 163 rfl) rfl
theorem q180 : (Jvm.Cond.methodLink "MapReduceRun" (138 : Nat) ({ cls := "MapReduceRun", name := "reduceGroup", desc := "(I)V" } : Jvm.MethodName)) ∈ lw_all := lw_g (lw_at lw_m1 164 rfl) rfl
theorem q181 : (Jvm.Cond.privateMethod ({ cls := "MapReduceRun", name := "reduceGroup", desc := "(I)V" } : Jvm.MethodName)) ∈ lw_tbl := lw_at lw_m1 165 rfl
theorem q182 : (Jvm.Cond.instanceMethod ({ cls := "MapReduceRun", name := "reduceGroup", desc := "(I)V" } : Jvm.MethodName)) ∈ lw_all := lw_g (lw_at lw_m1 166 rfl) rfl
theorem q183 : (Jvm.Cond.code ({ cls := "MapReduceRun", name := "reduceGroup", desc := "(I)V" } : Jvm.MethodName) prog_1_method_25_code (6 : Nat) (Option.none : Option Jvm.ClassFile.FieldType)) ∈ lw_all := lw_g (lw_at lw_m1 167 rfl) rfl
theorem q185 : (Jvm.Cond.instanceMethod ({ cls := "MapReduceRun", name := "results", desc := "(I)I" } : Jvm.MethodName)) ∈ lw_all := lw_g (lw_at lw_m1 169 rfl) rfl
theorem q186 : (Jvm.Cond.selects "MapReduceRun" ({ cls := "MapReduceRun", name := "results", desc := "(I)I" } : Jvm.MethodName) ({ cls := "MapReduceRun", name := "results", desc := "(I)I" } : Jvm.MethodName)) ∈ lw_all := lw_g (lw_at lw_m1 170 rfl) rfl
theorem q187 : (Jvm.Cond.code ({ cls := "MapReduceRun", name := "results", desc := "(I)I" } : Jvm.MethodName) prog_1_method_8_code (2 : Nat) (Option.some Jvm.ClassFile.FieldType.int)) ∈ lw_all := lw_g (lw_at lw_m1 171 rfl) rfl
theorem q189 : (Jvm.Cond.instanceMethod ({ cls := "MapReduceRun", name := "keyAt", desc := "(II)I" } : Jvm.MethodName)) ∈ lw_all := lw_g (lw_at lw_m1 173 rfl) rfl
theorem q190 : (Jvm.Cond.selects "MapReduceRun" ({ cls := "MapReduceRun", name := "keyAt", desc := "(II)I" } : Jvm.MethodName) ({ cls := "MapReduceRun", name := "keyAt", desc := "(II)I" } : Jvm.MethodName)) ∈ lw_all := lw_g (lw_at lw_m1 174 rfl) rfl
theorem q191 : (Jvm.Cond.code ({ cls := "MapReduceRun", name := "keyAt", desc := "(II)I" } : Jvm.MethodName) prog_1_method_9_code (3 : Nat) (Option.some Jvm.ClassFile.FieldType.int)) ∈ lw_all := lw_g (lw_at lw_m1 175 rfl) rfl
theorem q192 : (Jvm.Cond.methodLink "MapReduceRun" (106 : Nat) ({ cls := "MapReduceRun", name := "isResult", desc := "(II)Z" } : Jvm.MethodName)) ∈ lw_all := lw_g (lw_at lw_m1 176 rfl) rfl
theorem q193 : (Jvm.Cond.privateMethod ({ cls := "MapReduceRun", name := "isResult", desc := "(II)Z" } : Jvm.MethodName)) ∈ lw_tbl := lw_at lw_m1 177 rfl
theorem q194 : (Jvm.Cond.instanceMethod ({ cls := "MapReduceRun", name := "isResult", desc := "(II)Z" } : Jvm.MethodName)) ∈ lw_all := lw_g (lw_at lw_m1 178 rfl) rfl
theorem q195 : (Jvm.Cond.code ({ cls := "MapReduceRun", name := "isResult", desc := "(II)Z" } : Jvm.MethodName) prog_1_method_11_code (3 : Nat) (Option.some Jvm.ClassFile.FieldType.boolean)) ∈ lw_all := lw_g (lw_at lw_m1 179 rfl) rfl
theorem q197 : (Jvm.Cond.instanceMethod ({ cls := "MapReduceRun", name := "valueAt", desc := "(II)I" } : Jvm.MethodName)) ∈ lw_all := lw_g (lw_at lw_m1 181 rfl) rfl
theorem q198 : (Jvm.Cond.selects "MapReduceRun" ({ cls := "MapReduceRun", name := "valueAt", desc := "(II)I" } : Jvm.MethodName) ({ cls := "MapReduceRun", name := "valueAt", desc := "(II)I" } : Jvm.MethodName)) ∈ lw_all := lw_g (lw_at lw_m1 182 rfl) rfl
theorem q199 : (Jvm.Cond.code ({ cls := "MapReduceRun", name := "valueAt", desc := "(II)I" } : Jvm.MethodName) prog_1_method_10_code (3 : Nat) (Option.some Jvm.ClassFile.FieldType.int)) ∈ lw_all := lw_g (lw_at lw_m1 183 rfl) rfl
theorem q201 : (Jvm.Cond.instanceMethod ({ cls := "MapReduceRun", name := "mapped", desc := "()I" } : Jvm.MethodName)) ∈ lw_all := lw_g (lw_at lw_m1 185 rfl) rfl
theorem q202 : (Jvm.Cond.selects "MapReduceRun" ({ cls := "MapReduceRun", name := "mapped", desc := "()I" } : Jvm.MethodName) ({ cls := "MapReduceRun", name := "mapped", desc := "()I" } : Jvm.MethodName)) ∈ lw_all := lw_g (lw_at lw_m1 186 rfl) rfl
theorem q203 : (Jvm.Cond.code ({ cls := "MapReduceRun", name := "mapped", desc := "()I" } : Jvm.MethodName) prog_1_method_12_code (1 : Nat) (Option.some Jvm.ClassFile.FieldType.int)) ∈ lw_all := lw_g (lw_at lw_m1 187 rfl) rfl
theorem q205 : (Jvm.Cond.instanceMethod ({ cls := "MapReduceRun", name := "feedBack", desc := "()I" } : Jvm.MethodName)) ∈ lw_all := lw_g (lw_at lw_m1 189 rfl) rfl
theorem q206 : (Jvm.Cond.selects "MapReduceRun" ({ cls := "MapReduceRun", name := "feedBack", desc := "()I" } : Jvm.MethodName) ({ cls := "MapReduceRun", name := "feedBack", desc := "()I" } : Jvm.MethodName)) ∈ lw_all := lw_g (lw_at lw_m1 190 rfl) rfl
theorem q207 : (Jvm.Cond.code ({ cls := "MapReduceRun", name := "feedBack", desc := "()I" } : Jvm.MethodName) prog_1_method_13_code (5 : Nat) (Option.some Jvm.ClassFile.FieldType.int)) ∈ lw_all := lw_g (lw_at lw_m1 191 rfl) rfl
theorem q209 : (Jvm.Cond.instanceMethod ({ cls := "MapReduceRun", name := "emptySplit", desc := "(I)I" } : Jvm.MethodName)) ∈ lw_all := lw_g (lw_at lw_m1 193 rfl) rfl
theorem q210 : (Jvm.Cond.selects "MapReduceRun" ({ cls := "MapReduceRun", name := "emptySplit", desc := "(I)I" } : Jvm.MethodName) ({ cls := "MapReduceRun", name := "emptySplit", desc := "(I)I" } : Jvm.MethodName)) ∈ lw_all := lw_g (lw_at lw_m1 194 rfl) rfl
theorem q211 : (Jvm.Cond.code ({ cls := "MapReduceRun", name := "emptySplit", desc := "(I)I" } : Jvm.MethodName) prog_1_method_14_code (3 : Nat) (Option.some Jvm.ClassFile.FieldType.int)) ∈ lw_all := lw_g (lw_at lw_m1 195 rfl) rfl
theorem in_X1 : ∀ w ∈ wsX10, w ∈ lw_all := lw_in wsX10 [57, 59, 61, 63, 65, 67, 69, 71, 73, 75, 77, 79, 81, 83, 85, 87, 89, 91, 93, 95, 97, 99, 101, 103, 105, 107, 109, 111] (by decide +kernel) (by decide +kernel)

/-! MapReduceRunModel -/
set_option maxRecDepth 100000
def RX2 : String := "MapReduceRunModel"
def TX2 : u_T := fun k => match k with
  | 0 => ("MapReduceRunModel", "parts", "I", false)
  | 1 => ("MapReduceRunModel", "size", "[I", false)
  | 2 => ("MapReduceRunModel", "keys", "[I", false)
  | 3 => ("MapReduceRunModel", "values", "[I", false)
  | 4 => ("MapReduceRunModel", "modulus", "I", false)
  | 5 => ("MapReduceRunModel", "factor", "I", false)
  | 6 => ("MapReduceRunModel", "offset", "I", false)
  | 7 => ("MapReduceRunModel", "low", "I", false)
  | 8 => ("MapReduceRunModel", "high", "I", false)
  | 9 => ("MapReduceRunModel", "failing", "[I", false)
  | 10 => ("MapReduceRunModel", "has", "[Z", false)
  | 11 => ("MapReduceRunModel", "result", "[I", false)
  | _ => ("MapReduceRunModel", "mapped", "I", false)
def tyX2 : Nat → FieldType := fun k => match k with
  | 0 => .int
  | 1 => .array .int
  | 2 => .array .int
  | 3 => .array .int
  | 4 => .int
  | 5 => .int
  | 6 => .int
  | 7 => .int
  | 8 => .int
  | 9 => .array .int
  | 10 => .array .boolean
  | 11 => .array .int
  | _ => .int
abbrev wsX20 : List Cond := u_ws RX2 TX2 13
set_option maxRecDepth 100000 in
theorem nmX2 : ∀ a, a < 13 → ∀ b, b < 13 → a ≠ b → (TX2 a).2.1 ≠ (TX2 b).2.1 := by decide +kernel
set_option maxRecDepth 100000 in
theorem tyX2_ok : ∀ k, k < 13 → parseFieldDescriptor (TX2 k).2.2.1 = some (tyX2 k) := by decide +kernel
abbrev cX2_init : ByteArray := prog_3_method_1_code
def yX2_init : MethodName := ⟨RX2, "<init>", "(II)V"⟩
abbrev cX2_addRecord : ByteArray := prog_3_method_2_code
def yX2_addRecord : MethodName := ⟨RX2, "addRecord", "(III)I"⟩
abbrev cX2_mapping : ByteArray := prog_3_method_3_code
def yX2_mapping : MethodName := ⟨RX2, "mapping", "(III)Z"⟩
abbrev cX2_bounds : ByteArray := prog_3_method_4_code
def yX2_bounds : MethodName := ⟨RX2, "bounds", "(II)V"⟩
abbrev cX2_failures : ByteArray := prog_3_method_5_code
def yX2_failures : MethodName := ⟨RX2, "failures", "(ZII)Z"⟩
abbrev cX2_run : ByteArray := prog_3_method_9_code
def yX2_run : MethodName := ⟨RX2, "run", "(I)I"⟩
abbrev cX2_counts : ByteArray := prog_3_method_6_code
def yX2_counts : MethodName := ⟨RX2, "counts", "(I)Z"⟩
abbrev cX2_reduce : ByteArray := prog_3_method_8_code
def yX2_reduce : MethodName := ⟨RX2, "reduce", "(II)I"⟩
abbrev cX2_keyOf : ByteArray := prog_3_method_7_code
def yX2_keyOf : MethodName := ⟨RX2, "keyOf", "(I)I"⟩
abbrev cX2_results : ByteArray := prog_3_method_10_code
def yX2_results : MethodName := ⟨RX2, "results", "(I)I"⟩
abbrev cX2_keyAt : ByteArray := prog_3_method_11_code
def yX2_keyAt : MethodName := ⟨RX2, "keyAt", "(II)I"⟩
abbrev cX2_valueAt : ByteArray := prog_3_method_12_code
def yX2_valueAt : MethodName := ⟨RX2, "valueAt", "(II)I"⟩
abbrev cX2_mapped : ByteArray := prog_3_method_13_code
def yX2_mapped : MethodName := ⟨RX2, "mapped", "()I"⟩
abbrev cX2_feedBack : ByteArray := prog_3_method_14_code
def yX2_feedBack : MethodName := ⟨RX2, "feedBack", "()I"⟩
abbrev cX2_emptySplit : ByteArray := prog_3_method_15_code
def yX2_emptySplit : MethodName := ⟨RX2, "emptySplit", "(I)I"⟩
theorem q18 : (Jvm.Cond.initialized "MapReduceRunModel") ∈ lw_all := lw_g (lw_at lw_m1 2 rfl) rfl
theorem q216 : (Jvm.Cond.instantiable "MapReduceRunModel" (13 : Nat)) ∈ lw_all := lw_g (lw_at lw_m1 200 rfl) rfl
theorem q218 : (Jvm.Cond.instanceMethod ({ cls := "MapReduceRunModel", name := "<init>", desc := "(II)V" } : Jvm.MethodName)) ∈ lw_all := lw_g (lw_at lw_m1 202 rfl) rfl
theorem q219 : (Jvm.Cond.code ({ cls := "MapReduceRunModel", name := "<init>", desc := "(II)V" } : Jvm.MethodName) prog_3_method_1_code (3 : Nat) (Option.none : Option Jvm.ClassFile.FieldType)) ∈ lw_all := lw_g (lw_at lw_m1 203 rfl) rfl
theorem q220 : (Jvm.Cond.methodLink "MapReduceRunModel" (1 : Nat) ({ cls := "java/lang/Object", name := "<init>", desc := "()V" } : Jvm.MethodName)) ∈ lw_all := lw_g (lw_at lw_m1 204 rfl) rfl
theorem q221 : (Jvm.Cond.constant "MapReduceRunModel" (29 : Nat) (-2147483648 : Int32)) ∈ lw_all := lw_g (lw_at lw_m1 205 rfl) rfl
theorem q222 : (Jvm.Cond.constant "MapReduceRunModel" (33 : Nat) (2147483647 : Int32)) ∈ lw_all := lw_g (lw_at lw_m1 206 rfl) rfl
theorem q223 : (Jvm.Cond.fieldLink "MapReduceRunModel" (50 : Nat) "MapReduceRunModel" "parts" "I") ∈ lw_all := lw_g (lw_at lw_m1 207 rfl) rfl
theorem q224 : (Jvm.Cond.fieldLink "MapReduceRunModel" (7 : Nat) "MapReduceRunModel" "size" "[I") ∈ lw_all := lw_g (lw_at lw_m1 208 rfl) rfl
theorem q225 : (Jvm.Cond.fieldLink "MapReduceRunModel" (13 : Nat) "MapReduceRunModel" "keys" "[I") ∈ lw_all := lw_g (lw_at lw_m1 209 rfl) rfl
theorem q226 : (Jvm.Cond.fieldLink "MapReduceRunModel" (16 : Nat) "MapReduceRunModel" "values" "[I") ∈ lw_all := lw_g (lw_at lw_m1 210 rfl) rfl
theorem q227 : (Jvm.Cond.fieldLink "MapReduceRunModel" (19 : Nat) "MapReduceRunModel" "modulus" "I") ∈ lw_all := lw_g (lw_at lw_m1 211 rfl) rfl
theorem q228 : (Jvm.Cond.fieldLink "MapReduceRunModel" (23 : Nat) "MapReduceRunModel" "factor" "I") ∈ lw_all := lw_g (lw_at lw_m1 212 rfl) rfl
theorem q229 : (Jvm.Cond.fieldLink "MapReduceRunModel" (26 : Nat) "MapReduceRunModel" "offset" "I") ∈ lw_all := lw_g (lw_at lw_m1 213 rfl) rfl
theorem q230 : (Jvm.Cond.fieldLink "MapReduceRunModel" (30 : Nat) "MapReduceRunModel" "low" "I") ∈ lw_all := lw_g (lw_at lw_m1 214 rfl) rfl
theorem q231 : (Jvm.Cond.fieldLink "MapReduceRunModel" (34 : Nat) "MapReduceRunModel" "high" "I") ∈ lw_all := lw_g (lw_at lw_m1 215 rfl) rfl
theorem q232 : (Jvm.Cond.fieldLink "MapReduceRunModel" (37 : Nat) "MapReduceRunModel" "failing" "[I") ∈ lw_all := lw_g (lw_at lw_m1 216 rfl) rfl
theorem q233 : (Jvm.Cond.fieldLink "MapReduceRunModel" (40 : Nat) "MapReduceRunModel" "has" "[Z") ∈ lw_all := lw_g (lw_at lw_m1 217 rfl) rfl
theorem q234 : (Jvm.Cond.fieldLink "MapReduceRunModel" (44 : Nat) "MapReduceRunModel" "result" "[I") ∈ lw_all := lw_g (lw_at lw_m1 218 rfl) rfl
theorem q235 : (Jvm.Cond.fieldLink "MapReduceRunModel" (47 : Nat) "MapReduceRunModel" "mapped" "I") ∈ lw_all := lw_g (lw_at lw_m1 219 rfl) rfl
theorem q236 : (Jvm.Cond.lays "MapReduceRunModel" "MapReduceRunModel" "parts" "I") ∈ lw_all := lw_g (lw_at lw_m1 220 rfl) rfl
theorem q237 : (Jvm.Cond.soleField "MapReduceRunModel" "parts") ∈ lw_all := lw_g (lw_at lw_m1 221 rfl) rfl
theorem q238 : (Jvm.Cond.lays "MapReduceRunModel" "MapReduceRunModel" "size" "[I") ∈ lw_all := lw_g (lw_at lw_m1 222 rfl) rfl
theorem q239 : (Jvm.Cond.soleField "MapReduceRunModel" "size") ∈ lw_all := lw_g (lw_at lw_m1 223 rfl) rfl
theorem q240 : (Jvm.Cond.lays "MapReduceRunModel" "MapReduceRunModel" "keys" "[I") ∈ lw_all := lw_g (lw_at lw_m1 224 rfl) rfl
theorem q241 : (Jvm.Cond.soleField "MapReduceRunModel" "keys") ∈ lw_all := lw_g (lw_at lw_m1 225 rfl) rfl
theorem q242 : (Jvm.Cond.lays "MapReduceRunModel" "MapReduceRunModel" "values" "[I") ∈ lw_all := lw_g (lw_at lw_m1 226 rfl) rfl
theorem q243 : (Jvm.Cond.soleField "MapReduceRunModel" "values") ∈ lw_all := lw_g (lw_at lw_m1 227 rfl) rfl
theorem q244 : (Jvm.Cond.lays "MapReduceRunModel" "MapReduceRunModel" "modulus" "I") ∈ lw_all := lw_g (lw_at lw_m1 228 rfl) rfl
theorem q245 : (Jvm.Cond.soleField "MapReduceRunModel" "modulus") ∈ lw_all := lw_g (lw_at lw_m1 229 rfl) rfl
theorem q246 : (Jvm.Cond.lays "MapReduceRunModel" "MapReduceRunModel" "factor" "I") ∈ lw_all := lw_g (lw_at lw_m1 230 rfl) rfl
theorem q247 : (Jvm.Cond.soleField "MapReduceRunModel" "factor") ∈ lw_all := lw_g (lw_at lw_m1 231 rfl) rfl
theorem q248 : (Jvm.Cond.lays "MapReduceRunModel" "MapReduceRunModel" "offset" "I") ∈ lw_all := lw_g (lw_at lw_m1 232 rfl) rfl
theorem q249 : (Jvm.Cond.soleField "MapReduceRunModel" "offset") ∈ lw_all := lw_g (lw_at lw_m1 233 rfl) rfl
theorem q250 : (Jvm.Cond.lays "MapReduceRunModel" "MapReduceRunModel" "low" "I") ∈ lw_all := lw_g (lw_at lw_m1 234 rfl) rfl
theorem q251 : (Jvm.Cond.soleField "MapReduceRunModel" "low") ∈ lw_all := lw_g (lw_at lw_m1 235 rfl) rfl
theorem q252 : (Jvm.Cond.lays "MapReduceRunModel" "MapReduceRunModel" "high" "I") ∈ lw_all := lw_g (lw_at lw_m1 236 rfl) rfl
theorem q253 : (Jvm.Cond.soleField "MapReduceRunModel" "high") ∈ lw_all := lw_g (lw_at lw_m1 237 rfl) rfl
theorem q254 : (Jvm.Cond.lays "MapReduceRunModel" "MapReduceRunModel" "failing" "[I") ∈ lw_all := lw_g (lw_at lw_m1 238 rfl) rfl
theorem q255 : (Jvm.Cond.soleField "MapReduceRunModel" "failing") ∈ lw_all := lw_g (lw_at lw_m1 239 rfl) rfl
theorem q256 : (Jvm.Cond.lays "MapReduceRunModel" "MapReduceRunModel" "has" "[Z") ∈ lw_all := lw_g (lw_at lw_m2 0 rfl) rfl
theorem q257 : (Jvm.Cond.soleField "MapReduceRunModel" "has") ∈ lw_all := lw_g (lw_at lw_m2 1 rfl) rfl
theorem q258 : (Jvm.Cond.lays "MapReduceRunModel" "MapReduceRunModel" "result" "[I") ∈ lw_all := lw_g (lw_at lw_m2 2 rfl) rfl
theorem q259 : (Jvm.Cond.soleField "MapReduceRunModel" "result") ∈ lw_all := lw_g (lw_at lw_m2 3 rfl) rfl
theorem q260 : (Jvm.Cond.lays "MapReduceRunModel" "MapReduceRunModel" "mapped" "I") ∈ lw_all := lw_g (lw_at lw_m2 4 rfl) rfl
theorem q261 : (Jvm.Cond.soleField "MapReduceRunModel" "mapped") ∈ lw_all := lw_g (lw_at lw_m2 5 rfl) rfl
theorem q262 : (Jvm.Cond.superclass "MapReduceRunModel" "java/lang/Object") ∈ lw_all := lw_g (lw_at lw_m2 6 rfl) rfl
theorem q265 : (Jvm.Cond.instanceMethod ({ cls := "MapReduceRunModel", name := "addRecord", desc := "(III)I" } : Jvm.MethodName)) ∈ lw_all := lw_g (lw_at lw_m2 9 rfl) rfl
theorem q266 : (Jvm.Cond.selects "MapReduceRunModel" ({ cls := "MapReduceRunModel", name := "addRecord", desc := "(III)I" } : Jvm.MethodName) ({ cls := "MapReduceRunModel", name := "addRecord", desc := "(III)I" } : Jvm.MethodName)) ∈ lw_all := lw_g (lw_at lw_m2 10 rfl) rfl
theorem q267 : (Jvm.Cond.code ({ cls := "MapReduceRunModel", name := "addRecord", desc := "(III)I" } : Jvm.MethodName) prog_3_method_2_code (4 : Nat) (Option.some Jvm.ClassFile.FieldType.int)) ∈ lw_all := lw_g (lw_at lw_m2 11 rfl) rfl
theorem q269 : (Jvm.Cond.instanceMethod ({ cls := "MapReduceRunModel", name := "mapping", desc := "(III)Z" } : Jvm.MethodName)) ∈ lw_all := lw_g (lw_at lw_m2 13 rfl) rfl
theorem q270 : (Jvm.Cond.selects "MapReduceRunModel" ({ cls := "MapReduceRunModel", name := "mapping", desc := "(III)Z" } : Jvm.MethodName) ({ cls := "MapReduceRunModel", name := "mapping", desc := "(III)Z" } : Jvm.MethodName)) ∈ lw_all := lw_g (lw_at lw_m2 14 rfl) rfl
theorem q271 : (Jvm.Cond.code ({ cls := "MapReduceRunModel", name := "mapping", desc := "(III)Z" } : Jvm.MethodName) prog_3_method_3_code (4 : Nat) (Option.some Jvm.ClassFile.FieldType.boolean)) ∈ lw_all := lw_g (lw_at lw_m2 15 rfl) rfl
theorem q273 : (Jvm.Cond.instanceMethod ({ cls := "MapReduceRunModel", name := "bounds", desc := "(II)V" } : Jvm.MethodName)) ∈ lw_all := lw_g (lw_at lw_m2 17 rfl) rfl
theorem q274 : (Jvm.Cond.selects "MapReduceRunModel" ({ cls := "MapReduceRunModel", name := "bounds", desc := "(II)V" } : Jvm.MethodName) ({ cls := "MapReduceRunModel", name := "bounds", desc := "(II)V" } : Jvm.MethodName)) ∈ lw_all := lw_g (lw_at lw_m2 18 rfl) rfl
theorem q275 : (Jvm.Cond.code ({ cls := "MapReduceRunModel", name := "bounds", desc := "(II)V" } : Jvm.MethodName) prog_3_method_4_code (3 : Nat) (Option.none : Option Jvm.ClassFile.FieldType)) ∈ lw_all := lw_g (lw_at lw_m2 19 rfl) rfl
theorem q277 : (Jvm.Cond.instanceMethod ({ cls := "MapReduceRunModel", name := "failures", desc := "(ZII)Z" } : Jvm.MethodName)) ∈ lw_all := lw_g (lw_at lw_m2 21 rfl) rfl
theorem q278 : (Jvm.Cond.selects "MapReduceRunModel" ({ cls := "MapReduceRunModel", name := "failures", desc := "(ZII)Z" } : Jvm.MethodName) ({ cls := "MapReduceRunModel", name := "failures", desc := "(ZII)Z" } : Jvm.MethodName)) ∈ lw_all := lw_g (lw_at lw_m2 22 rfl) rfl
theorem q279 : (Jvm.Cond.code ({ cls := "MapReduceRunModel", name := "failures", desc := "(ZII)Z" } : Jvm.MethodName) prog_3_method_5_code (4 : Nat) (Option.some Jvm.ClassFile.FieldType.boolean)) ∈ lw_all := lw_g (lw_at lw_m2 23 rfl) rfl
theorem q281 : (Jvm.Cond.instanceMethod ({ cls := "MapReduceRunModel", name := "run", desc := "(I)I" } : Jvm.MethodName)) ∈ lw_all := lw_g (lw_at lw_m2 25 rfl) rfl
theorem q282 : (Jvm.Cond.selects "MapReduceRunModel" ({ cls := "MapReduceRunModel", name := "run", desc := "(I)I" } : Jvm.MethodName) ({ cls := "MapReduceRunModel", name := "run", desc := "(I)I" } : Jvm.MethodName)) ∈ lw_all := lw_g (lw_at lw_m2 26 rfl) rfl
theorem q283 : (Jvm.Cond.code ({ cls := "MapReduceRunModel", name := "run", desc := "(I)I" } : Jvm.MethodName) prog_3_method_9_code (5 : Nat) (Option.some Jvm.ClassFile.FieldType.int)) ∈ lw_all := lw_g (lw_at lw_m2 27 rfl) rfl
theorem q284 : (Jvm.Cond.methodLink "MapReduceRunModel" (53 : Nat) ({ cls := "MapReduceRunModel", name := "counts", desc := "(I)Z" } : Jvm.MethodName)) ∈ lw_all := lw_g (lw_at lw_m2 28 rfl) rfl
theorem q285 : (Jvm.Cond.privateMethod ({ cls := "MapReduceRunModel", name := "counts", desc := "(I)Z" } : Jvm.MethodName)) ∈ lw_tbl := lw_at lw_m2 29 rfl
theorem q286 : (Jvm.Cond.instanceMethod ({ cls := "MapReduceRunModel", name := "counts", desc := "(I)Z" } : Jvm.MethodName)) ∈ lw_all := lw_g (lw_at lw_m2 30 rfl) rfl
theorem q287 : (Jvm.Cond.code ({ cls := "MapReduceRunModel", name := "counts", desc := "(I)Z" } : Jvm.MethodName) prog_3_method_6_code (2 : Nat) (Option.some Jvm.ClassFile.FieldType.boolean)) ∈ lw_all := lw_g (lw_at lw_m2 31 rfl) rfl
theorem q288 : (Jvm.Cond.methodLink "MapReduceRunModel" (61 : Nat) ({ cls := "MapReduceRunModel", name := "reduce", desc := "(II)I" } : Jvm.MethodName)) ∈ lw_all := lw_g (lw_at lw_m2 32 rfl) rfl
theorem q289 : (Jvm.Cond.privateMethod ({ cls := "MapReduceRunModel", name := "reduce", desc := "(II)I" } : Jvm.MethodName)) ∈ lw_tbl := lw_at lw_m2 33 rfl
theorem q290 : (Jvm.Cond.instanceMethod ({ cls := "MapReduceRunModel", name := "reduce", desc := "(II)I" } : Jvm.MethodName)) ∈ lw_all := lw_g (lw_at lw_m2 34 rfl) rfl
theorem q291 : (Jvm.Cond.code ({ cls := "MapReduceRunModel", name := "reduce", desc := "(II)I" } : Jvm.MethodName) prog_3_method_8_code (10 : Nat) (Option.some Jvm.ClassFile.FieldType.int)) ∈ lw_all := lw_g (lw_at lw_m2 35 rfl) rfl
theorem q292 : (Jvm.Cond.methodLink "MapReduceRunModel" (57 : Nat) ({ cls := "MapReduceRunModel", name := "keyOf", desc := "(I)I" } : Jvm.MethodName)) ∈ lw_all := lw_g (lw_at lw_m2 36 rfl) rfl
theorem q293 : (Jvm.Cond.privateMethod ({ cls := "MapReduceRunModel", name := "keyOf", desc := "(I)I" } : Jvm.MethodName)) ∈ lw_tbl := lw_at lw_m2 37 rfl
theorem q294 : (Jvm.Cond.instanceMethod ({ cls := "MapReduceRunModel", name := "keyOf", desc := "(I)I" } : Jvm.MethodName)) ∈ lw_all := lw_g (lw_at lw_m2 38 rfl) rfl
theorem q295 : (Jvm.Cond.code ({ cls := "MapReduceRunModel", name := "keyOf", desc := "(I)I" } : Jvm.MethodName) prog_3_method_7_code (3 : Nat) (Option.some Jvm.ClassFile.FieldType.int)) ∈ lw_all := lw_g (lw_at lw_m2 39 rfl) rfl
theorem q297 : (Jvm.Cond.instanceMethod ({ cls := "MapReduceRunModel", name := "results", desc := "(I)I" } : Jvm.MethodName)) ∈ lw_all := lw_g (lw_at lw_m2 41 rfl) rfl
theorem q298 : (Jvm.Cond.selects "MapReduceRunModel" ({ cls := "MapReduceRunModel", name := "results", desc := "(I)I" } : Jvm.MethodName) ({ cls := "MapReduceRunModel", name := "results", desc := "(I)I" } : Jvm.MethodName)) ∈ lw_all := lw_g (lw_at lw_m2 42 rfl) rfl
theorem q299 : (Jvm.Cond.code ({ cls := "MapReduceRunModel", name := "results", desc := "(I)I" } : Jvm.MethodName) prog_3_method_10_code (4 : Nat) (Option.some Jvm.ClassFile.FieldType.int)) ∈ lw_all := lw_g (lw_at lw_m2 43 rfl) rfl
theorem q301 : (Jvm.Cond.instanceMethod ({ cls := "MapReduceRunModel", name := "keyAt", desc := "(II)I" } : Jvm.MethodName)) ∈ lw_all := lw_g (lw_at lw_m2 45 rfl) rfl
theorem q302 : (Jvm.Cond.selects "MapReduceRunModel" ({ cls := "MapReduceRunModel", name := "keyAt", desc := "(II)I" } : Jvm.MethodName) ({ cls := "MapReduceRunModel", name := "keyAt", desc := "(II)I" } : Jvm.MethodName)) ∈ lw_all := lw_g (lw_at lw_m2 46 rfl) rfl
theorem q303 : (Jvm.Cond.code ({ cls := "MapReduceRunModel", name := "keyAt", desc := "(II)I" } : Jvm.MethodName) prog_3_method_11_code (5 : Nat) (Option.some Jvm.ClassFile.FieldType.int)) ∈ lw_all := lw_g (lw_at lw_m2 47 rfl) rfl
theorem q305 : (Jvm.Cond.instanceMethod ({ cls := "MapReduceRunModel", name := "valueAt", desc := "(II)I" } : Jvm.MethodName)) ∈ lw_all := lw_g (lw_at lw_m2 49 rfl) rfl
theorem q306 : (Jvm.Cond.selects "MapReduceRunModel" ({ cls := "MapReduceRunModel", name := "valueAt", desc := "(II)I" } : Jvm.MethodName) ({ cls := "MapReduceRunModel", name := "valueAt", desc := "(II)I" } : Jvm.MethodName)) ∈ lw_all := lw_g (lw_at lw_m2 50 rfl) rfl
theorem q307 : (Jvm.Cond.code ({ cls := "MapReduceRunModel", name := "valueAt", desc := "(II)I" } : Jvm.MethodName) prog_3_method_12_code (4 : Nat) (Option.some Jvm.ClassFile.FieldType.int)) ∈ lw_all := lw_g (lw_at lw_m2 51 rfl) rfl
theorem q308 : (Jvm.Cond.methodLink "MapReduceRunModel" (65 : Nat) ({ cls := "MapReduceRunModel", name := "keyAt", desc := "(II)I" } : Jvm.MethodName)) ∈ lw_all := lw_g (lw_at lw_m2 52 rfl) rfl
theorem q310 : (Jvm.Cond.instanceMethod ({ cls := "MapReduceRunModel", name := "mapped", desc := "()I" } : Jvm.MethodName)) ∈ lw_all := lw_g (lw_at lw_m2 54 rfl) rfl
theorem q311 : (Jvm.Cond.selects "MapReduceRunModel" ({ cls := "MapReduceRunModel", name := "mapped", desc := "()I" } : Jvm.MethodName) ({ cls := "MapReduceRunModel", name := "mapped", desc := "()I" } : Jvm.MethodName)) ∈ lw_all := lw_g (lw_at lw_m2 55 rfl) rfl
theorem q312 : (Jvm.Cond.code ({ cls := "MapReduceRunModel", name := "mapped", desc := "()I" } : Jvm.MethodName) prog_3_method_13_code (1 : Nat) (Option.some Jvm.ClassFile.FieldType.int)) ∈ lw_all := lw_g (lw_at lw_m2 56 rfl) rfl
theorem q314 : (Jvm.Cond.instanceMethod ({ cls := "MapReduceRunModel", name := "feedBack", desc := "()I" } : Jvm.MethodName)) ∈ lw_all := lw_g (lw_at lw_m2 58 rfl) rfl
theorem q315 : (Jvm.Cond.selects "MapReduceRunModel" ({ cls := "MapReduceRunModel", name := "feedBack", desc := "()I" } : Jvm.MethodName) ({ cls := "MapReduceRunModel", name := "feedBack", desc := "()I" } : Jvm.MethodName)) ∈ lw_all := lw_g (lw_at lw_m2 59 rfl) rfl
theorem q316 : (Jvm.Cond.code ({ cls := "MapReduceRunModel", name := "feedBack", desc := "()I" } : Jvm.MethodName) prog_3_method_14_code (3 : Nat) (Option.some Jvm.ClassFile.FieldType.int)) ∈ lw_all := lw_g (lw_at lw_m2 60 rfl) rfl
theorem q317 : (Jvm.Cond.methodLink "MapReduceRunModel" (68 : Nat) ({ cls := "MapReduceRunModel", name := "addRecord", desc := "(III)I" } : Jvm.MethodName)) ∈ lw_all := lw_g (lw_at lw_m2 61 rfl) rfl
theorem q319 : (Jvm.Cond.instanceMethod ({ cls := "MapReduceRunModel", name := "emptySplit", desc := "(I)I" } : Jvm.MethodName)) ∈ lw_all := lw_g (lw_at lw_m2 63 rfl) rfl
theorem q320 : (Jvm.Cond.selects "MapReduceRunModel" ({ cls := "MapReduceRunModel", name := "emptySplit", desc := "(I)I" } : Jvm.MethodName) ({ cls := "MapReduceRunModel", name := "emptySplit", desc := "(I)I" } : Jvm.MethodName)) ∈ lw_all := lw_g (lw_at lw_m2 64 rfl) rfl
theorem q321 : (Jvm.Cond.code ({ cls := "MapReduceRunModel", name := "emptySplit", desc := "(I)I" } : Jvm.MethodName) prog_3_method_15_code (3 : Nat) (Option.some Jvm.ClassFile.FieldType.int)) ∈ lw_all := lw_g (lw_at lw_m2 65 rfl) rfl
theorem in_X2 : ∀ w ∈ wsX20, w ∈ lw_all := lw_in wsX20 [236, 238, 240, 242, 244, 246, 248, 250, 252, 254, 256, 258, 260] (by decide +kernel) (by decide +kernel)

/-! java/lang/Object -/
set_option maxRecDepth 100000
def RJ0 : String := "java/lang/Object"
abbrev cJ0_init : ByteArray := object_method_1_code
def yJ0_init : MethodName := ⟨RJ0, "<init>", "()V"⟩
theorem q25 : (Jvm.Cond.instanceMethod ({ cls := "java/lang/Object", name := "<init>", desc := "()V" } : Jvm.MethodName)) ∈ lw_all := lw_g (lw_at lw_m1 9 rfl) rfl
theorem q26 : (Jvm.Cond.code ({ cls := "java/lang/Object", name := "<init>", desc := "()V" } : Jvm.MethodName) object_method_1_code (1 : Nat) (Option.none : Option Jvm.ClassFile.FieldType)) ∈ lw_all := lw_g (lw_at lw_m1 10 rfl) rfl

theorem q114 : (Jvm.Cond.arrayClass Jvm.ClassFile.FieldType.byte) ∈ lw_all := lw_g (lw_at lw_m1 98 rfl) rfl
set_option maxRecDepth 100000
theorem q115 : (Jvm.Cond.arrayClass Jvm.ClassFile.FieldType.int) ∈ lw_all := lw_g (lw_at lw_m1 99 rfl) rfl
theorem q263 : (Jvm.Cond.arrayClass Jvm.ClassFile.FieldType.boolean) ∈ lw_all := lw_g (lw_at lw_m2 7 rfl) rfl

/-! the law's own entry -/
set_option maxRecDepth 100000
abbrev cL_law : ByteArray := code
end
section
set_option maxRecDepth 100000
theorem dX0_cell_0 : decode cX0_cell 0 = .ok (.iload_n 1, 1) := by decide +kernel
theorem dX0_cell_1 : decode cX0_cell 1 = .ok (.aload_n 0, 1) := by decide +kernel
theorem dX0_cell_2 : decode cX0_cell 2 = .ok (.arraylength, 1) := by decide +kernel
theorem dX0_cell_3 : decode cX0_cell 3 = .ok (.if_icmp .ge 9, 3) := by decide +kernel
theorem dX0_cell_6 : decode cX0_cell 6 = .ok (.aload_n 0, 1) := by decide +kernel
theorem dX0_cell_7 : decode cX0_cell 7 = .ok (.iload_n 1, 1) := by decide +kernel
theorem dX0_cell_8 : decode cX0_cell 8 = .ok (.iaload, 1) := by decide +kernel
theorem dX0_cell_9 : decode cX0_cell 9 = .ok (.goto 4, 3) := by decide +kernel
theorem dX0_cell_12 : decode cX0_cell 12 = .ok (.iconst 0, 1) := by decide +kernel
theorem dX0_cell_13 : decode cX0_cell 13 = .ok (.ireturn, 1) := by decide +kernel
theorem dX1_init_0 : decode cX1_init 0 = .ok (.aload_n 0, 1) := by decide +kernel
theorem dX1_init_1 : decode cX1_init 1 = .ok (.invokespecial 1, 3) := by decide +kernel
theorem dX1_init_4 : decode cX1_init 4 = .ok (.aload_n 0, 1) := by decide +kernel
theorem dX1_init_5 : decode cX1_init 5 = .ok (.iconst 4, 1) := by decide +kernel
theorem dX1_init_6 : decode cX1_init 6 = .ok (.newarray .byte, 2) := by decide +kernel
theorem dX1_init_8 : decode cX1_init 8 = .ok (.putfield 7, 3) := by decide +kernel
theorem dX1_init_11 : decode cX1_init 11 = .ok (.aload_n 0, 1) := by decide +kernel
theorem dX1_init_12 : decode cX1_init 12 = .ok (.bipush 64, 2) := by decide +kernel
theorem dX1_init_14 : decode cX1_init 14 = .ok (.newarray .int, 2) := by decide +kernel
theorem dX1_init_16 : decode cX1_init 16 = .ok (.putfield 13, 3) := by decide +kernel
theorem dX1_init_19 : decode cX1_init 19 = .ok (.aload_n 0, 1) := by decide +kernel
theorem dX1_init_20 : decode cX1_init 20 = .ok (.bipush 64, 2) := by decide +kernel
theorem dX1_init_22 : decode cX1_init 22 = .ok (.newarray .int, 2) := by decide +kernel
theorem dX1_init_24 : decode cX1_init 24 = .ok (.putfield 17, 3) := by decide +kernel
theorem dX1_init_27 : decode cX1_init 27 = .ok (.aload_n 0, 1) := by decide +kernel
theorem dX1_init_28 : decode cX1_init 28 = .ok (.iconst 4, 1) := by decide +kernel
theorem dX1_init_29 : decode cX1_init 29 = .ok (.newarray .byte, 2) := by decide +kernel
theorem dX1_init_31 : decode cX1_init 31 = .ok (.putfield 20, 3) := by decide +kernel
theorem dX1_init_34 : decode cX1_init 34 = .ok (.aload_n 0, 1) := by decide +kernel
theorem dX1_init_35 : decode cX1_init 35 = .ok (.iconst 4, 1) := by decide +kernel
theorem dX1_init_36 : decode cX1_init 36 = .ok (.newarray .byte, 2) := by decide +kernel
theorem dX1_init_38 : decode cX1_init 38 = .ok (.putfield 23, 3) := by decide +kernel
theorem dX1_init_41 : decode cX1_init 41 = .ok (.aload_n 0, 1) := by decide +kernel
theorem dX1_init_42 : decode cX1_init 42 = .ok (.bipush 8, 2) := by decide +kernel
theorem dX1_init_44 : decode cX1_init 44 = .ok (.newarray .byte, 2) := by decide +kernel
theorem dX1_init_46 : decode cX1_init 46 = .ok (.putfield 26, 3) := by decide +kernel
theorem dX1_init_49 : decode cX1_init 49 = .ok (.aload_n 0, 1) := by decide +kernel
theorem dX1_init_50 : decode cX1_init 50 = .ok (.bipush 8, 2) := by decide +kernel
theorem dX1_init_52 : decode cX1_init 52 = .ok (.newarray .int, 2) := by decide +kernel
theorem dX1_init_54 : decode cX1_init 54 = .ok (.putfield 29, 3) := by decide +kernel
theorem dX1_init_57 : decode cX1_init 57 = .ok (.aload_n 0, 1) := by decide +kernel
theorem dX1_init_58 : decode cX1_init 58 = .ok (.bipush 64, 2) := by decide +kernel
theorem dX1_init_60 : decode cX1_init 60 = .ok (.newarray .byte, 2) := by decide +kernel
theorem dX1_init_62 : decode cX1_init 62 = .ok (.putfield 32, 3) := by decide +kernel
theorem dX1_init_65 : decode cX1_init 65 = .ok (.aload_n 0, 1) := by decide +kernel
theorem dX1_init_66 : decode cX1_init 66 = .ok (.bipush 64, 2) := by decide +kernel
theorem dX1_init_68 : decode cX1_init 68 = .ok (.newarray .int, 2) := by decide +kernel
theorem dX1_init_70 : decode cX1_init 70 = .ok (.putfield 35, 3) := by decide +kernel
theorem dX1_init_73 : decode cX1_init 73 = .ok (.aload_n 0, 1) := by decide +kernel
theorem dX1_init_74 : decode cX1_init 74 = .ok (.sipush 160, 3) := by decide +kernel
theorem dX1_init_77 : decode cX1_init 77 = .ok (.newarray .byte, 2) := by decide +kernel
theorem dX1_init_79 : decode cX1_init 79 = .ok (.putfield 38, 3) := by decide +kernel
theorem dX1_init_82 : decode cX1_init 82 = .ok (.aload_n 0, 1) := by decide +kernel
theorem dX1_init_83 : decode cX1_init 83 = .ok (.bipush 32, 2) := by decide +kernel
theorem dX1_init_85 : decode cX1_init 85 = .ok (.newarray .byte, 2) := by decide +kernel
theorem dX1_init_87 : decode cX1_init 87 = .ok (.putfield 41, 3) := by decide +kernel
theorem dX1_init_90 : decode cX1_init 90 = .ok (.aload_n 0, 1) := by decide +kernel
theorem dX1_init_91 : decode cX1_init 91 = .ok (.bipush 32, 2) := by decide +kernel
theorem dX1_init_93 : decode cX1_init 93 = .ok (.newarray .byte, 2) := by decide +kernel
theorem dX1_init_95 : decode cX1_init 95 = .ok (.putfield 44, 3) := by decide +kernel
theorem dX1_init_98 : decode cX1_init 98 = .ok (.aload_n 0, 1) := by decide +kernel
theorem dX1_init_99 : decode cX1_init 99 = .ok (.iconst 5, 1) := by decide +kernel
theorem dX1_init_100 : decode cX1_init 100 = .ok (.newarray .byte, 2) := by decide +kernel
theorem dX1_init_102 : decode cX1_init 102 = .ok (.putfield 47, 3) := by decide +kernel
theorem dX1_init_105 : decode cX1_init 105 = .ok (.aload_n 0, 1) := by decide +kernel
theorem dX1_init_106 : decode cX1_init 106 = .ok (.bipush 16, 2) := by decide +kernel
theorem dX1_init_108 : decode cX1_init 108 = .ok (.newarray .byte, 2) := by decide +kernel
theorem dX1_init_110 : decode cX1_init 110 = .ok (.putfield 50, 3) := by decide +kernel
theorem dX1_init_113 : decode cX1_init 113 = .ok (.aload_n 0, 1) := by decide +kernel
theorem dX1_init_114 : decode cX1_init 114 = .ok (.bipush 16, 2) := by decide +kernel
theorem dX1_init_116 : decode cX1_init 116 = .ok (.newarray .int, 2) := by decide +kernel
theorem dX1_init_118 : decode cX1_init 118 = .ok (.putfield 53, 3) := by decide +kernel
theorem dX1_init_121 : decode cX1_init 121 = .ok (.aload_n 0, 1) := by decide +kernel
theorem dX1_init_122 : decode cX1_init 122 = .ok (.iload_n 1, 1) := by decide +kernel
theorem dX1_init_123 : decode cX1_init 123 = .ok (.iconst 1, 1) := by decide +kernel
theorem dX1_init_124 : decode cX1_init 124 = .ok (.if_icmp .ge 7, 3) := by decide +kernel
theorem dX1_init_127 : decode cX1_init 127 = .ok (.iconst 1, 1) := by decide +kernel
theorem dX1_init_128 : decode cX1_init 128 = .ok (.goto 13, 3) := by decide +kernel
theorem dX1_init_131 : decode cX1_init 131 = .ok (.iload_n 1, 1) := by decide +kernel
theorem dX1_init_132 : decode cX1_init 132 = .ok (.iconst 4, 1) := by decide +kernel
theorem dX1_init_133 : decode cX1_init 133 = .ok (.if_icmp .le 7, 3) := by decide +kernel
theorem dX1_init_136 : decode cX1_init 136 = .ok (.iconst 4, 1) := by decide +kernel
theorem dX1_init_137 : decode cX1_init 137 = .ok (.goto 4, 3) := by decide +kernel
theorem dX1_init_140 : decode cX1_init 140 = .ok (.iload_n 1, 1) := by decide +kernel
theorem dX1_init_141 : decode cX1_init 141 = .ok (.putfield 56, 3) := by decide +kernel
theorem dX1_init_144 : decode cX1_init 144 = .ok (.aload_n 0, 1) := by decide +kernel
theorem dX1_init_145 : decode cX1_init 145 = .ok (.iload_n 2, 1) := by decide +kernel
theorem dX1_init_146 : decode cX1_init 146 = .ok (.iconst 2, 1) := by decide +kernel
theorem dX1_init_147 : decode cX1_init 147 = .ok (.if_icmp .ge 7, 3) := by decide +kernel
theorem dX1_init_150 : decode cX1_init 150 = .ok (.iconst 2, 1) := by decide +kernel
theorem dX1_init_151 : decode cX1_init 151 = .ok (.goto 15, 3) := by decide +kernel
theorem dX1_init_154 : decode cX1_init 154 = .ok (.iload_n 2, 1) := by decide +kernel
theorem dX1_init_155 : decode cX1_init 155 = .ok (.bipush 8, 2) := by decide +kernel
theorem dX1_init_157 : decode cX1_init 157 = .ok (.if_icmp .le 8, 3) := by decide +kernel
theorem dX1_init_160 : decode cX1_init 160 = .ok (.bipush 8, 2) := by decide +kernel
theorem dX1_init_162 : decode cX1_init 162 = .ok (.goto 4, 3) := by decide +kernel
theorem dX1_init_165 : decode cX1_init 165 = .ok (.iload_n 2, 1) := by decide +kernel
theorem dX1_init_166 : decode cX1_init 166 = .ok (.putfield 60, 3) := by decide +kernel
theorem dX1_init_169 : decode cX1_init 169 = .ok (.aload_n 0, 1) := by decide +kernel
theorem dX1_init_170 : decode cX1_init 170 = .ok (.bipush 16, 2) := by decide +kernel
theorem dX1_init_172 : decode cX1_init 172 = .ok (.putfield 63, 3) := by decide +kernel
theorem dX1_init_175 : decode cX1_init 175 = .ok (.aload_n 0, 1) := by decide +kernel
theorem dX1_init_176 : decode cX1_init 176 = .ok (.iconst 1, 1) := by decide +kernel
theorem dX1_init_177 : decode cX1_init 177 = .ok (.putfield 66, 3) := by decide +kernel
theorem dX1_init_180 : decode cX1_init 180 = .ok (.aload_n 0, 1) := by decide +kernel
theorem dX1_init_181 : decode cX1_init 181 = .ok (.ldc 69, 2) := by decide +kernel
theorem dX1_init_183 : decode cX1_init 183 = .ok (.putfield 70, 3) := by decide +kernel
theorem dX1_init_186 : decode cX1_init 186 = .ok (.aload_n 0, 1) := by decide +kernel
theorem dX1_init_187 : decode cX1_init 187 = .ok (.ldc 73, 2) := by decide +kernel
theorem dX1_init_189 : decode cX1_init 189 = .ok (.putfield 74, 3) := by decide +kernel
theorem dX1_init_192 : decode cX1_init 192 = .ok (.return_, 1) := by decide +kernel
theorem dX1_addRecord_0 : decode cX1_addRecord 0 = .ok (.iload_n 1, 1) := by decide +kernel
theorem dX1_addRecord_1 : decode cX1_addRecord 1 = .ok (.ifCond .lt 8, 3) := by decide +kernel
theorem dX1_addRecord_4 : decode cX1_addRecord 4 = .ok (.iload_n 1, 1) := by decide +kernel
theorem dX1_addRecord_5 : decode cX1_addRecord 5 = .ok (.iconst 3, 1) := by decide +kernel
theorem dX1_addRecord_6 : decode cX1_addRecord 6 = .ok (.if_icmp .le 5, 3) := by decide +kernel
theorem dX1_addRecord_9 : decode cX1_addRecord 9 = .ok (.iconst (-1), 1) := by decide +kernel
theorem dX1_addRecord_10 : decode cX1_addRecord 10 = .ok (.ireturn, 1) := by decide +kernel
theorem dX1_addRecord_11 : decode cX1_addRecord 11 = .ok (.aload_n 0, 1) := by decide +kernel
theorem dX1_addRecord_12 : decode cX1_addRecord 12 = .ok (.getfield 7, 3) := by decide +kernel
theorem dX1_addRecord_15 : decode cX1_addRecord 15 = .ok (.iload_n 1, 1) := by decide +kernel
theorem dX1_addRecord_16 : decode cX1_addRecord 16 = .ok (.baload, 1) := by decide +kernel
theorem dX1_addRecord_17 : decode cX1_addRecord 17 = .ok (.bipush 16, 2) := by decide +kernel
theorem dX1_addRecord_19 : decode cX1_addRecord 19 = .ok (.if_icmp .lt 6, 3) := by decide +kernel
theorem dX1_addRecord_22 : decode cX1_addRecord 22 = .ok (.bipush (-2), 2) := by decide +kernel
theorem dX1_addRecord_24 : decode cX1_addRecord 24 = .ok (.ireturn, 1) := by decide +kernel
theorem dX1_addRecord_25 : decode cX1_addRecord 25 = .ok (.bipush 16, 2) := by decide +kernel
theorem dX1_addRecord_27 : decode cX1_addRecord 27 = .ok (.iload_n 1, 1) := by decide +kernel
theorem dX1_addRecord_28 : decode cX1_addRecord 28 = .ok (.imul, 1) := by decide +kernel
theorem dX1_addRecord_29 : decode cX1_addRecord 29 = .ok (.aload_n 0, 1) := by decide +kernel
theorem dX1_addRecord_30 : decode cX1_addRecord 30 = .ok (.getfield 7, 3) := by decide +kernel
theorem dX1_addRecord_33 : decode cX1_addRecord 33 = .ok (.iload_n 1, 1) := by decide +kernel
theorem dX1_addRecord_34 : decode cX1_addRecord 34 = .ok (.baload, 1) := by decide +kernel
theorem dX1_addRecord_35 : decode cX1_addRecord 35 = .ok (.iadd, 1) := by decide +kernel
theorem dX1_addRecord_36 : decode cX1_addRecord 36 = .ok (.istore 4, 2) := by decide +kernel
theorem dX1_addRecord_38 : decode cX1_addRecord 38 = .ok (.aload_n 0, 1) := by decide +kernel
theorem dX1_addRecord_39 : decode cX1_addRecord 39 = .ok (.getfield 13, 3) := by decide +kernel
theorem dX1_addRecord_42 : decode cX1_addRecord 42 = .ok (.iload 4, 2) := by decide +kernel
theorem dX1_addRecord_44 : decode cX1_addRecord 44 = .ok (.iload_n 2, 1) := by decide +kernel
theorem dX1_addRecord_45 : decode cX1_addRecord 45 = .ok (.iastore, 1) := by decide +kernel
theorem dX1_addRecord_46 : decode cX1_addRecord 46 = .ok (.aload_n 0, 1) := by decide +kernel
theorem dX1_addRecord_47 : decode cX1_addRecord 47 = .ok (.getfield 17, 3) := by decide +kernel
theorem dX1_addRecord_50 : decode cX1_addRecord 50 = .ok (.iload 4, 2) := by decide +kernel
theorem dX1_addRecord_52 : decode cX1_addRecord 52 = .ok (.iload_n 3, 1) := by decide +kernel
theorem dX1_addRecord_53 : decode cX1_addRecord 53 = .ok (.iastore, 1) := by decide +kernel
theorem dX1_addRecord_54 : decode cX1_addRecord 54 = .ok (.aload_n 0, 1) := by decide +kernel
theorem dX1_addRecord_55 : decode cX1_addRecord 55 = .ok (.getfield 7, 3) := by decide +kernel
theorem dX1_addRecord_58 : decode cX1_addRecord 58 = .ok (.iload_n 1, 1) := by decide +kernel
theorem dX1_addRecord_59 : decode cX1_addRecord 59 = .ok (.dup2, 1) := by decide +kernel
theorem dX1_addRecord_60 : decode cX1_addRecord 60 = .ok (.baload, 1) := by decide +kernel
theorem dX1_addRecord_61 : decode cX1_addRecord 61 = .ok (.iconst 1, 1) := by decide +kernel
theorem dX1_addRecord_62 : decode cX1_addRecord 62 = .ok (.iadd, 1) := by decide +kernel
theorem dX1_addRecord_63 : decode cX1_addRecord 63 = .ok (.i2b, 1) := by decide +kernel
theorem dX1_addRecord_64 : decode cX1_addRecord 64 = .ok (.bastore, 1) := by decide +kernel
theorem dX1_addRecord_65 : decode cX1_addRecord 65 = .ok (.aload_n 0, 1) := by decide +kernel
theorem dX1_addRecord_66 : decode cX1_addRecord 66 = .ok (.getfield 7, 3) := by decide +kernel
theorem dX1_addRecord_69 : decode cX1_addRecord 69 = .ok (.iload_n 1, 1) := by decide +kernel
theorem dX1_addRecord_70 : decode cX1_addRecord 70 = .ok (.baload, 1) := by decide +kernel
theorem dX1_addRecord_71 : decode cX1_addRecord 71 = .ok (.ireturn, 1) := by decide +kernel
theorem dX1_mapping_0 : decode cX1_mapping 0 = .ok (.iload_n 1, 1) := by decide +kernel
theorem dX1_mapping_1 : decode cX1_mapping 1 = .ok (.iconst 1, 1) := by decide +kernel
theorem dX1_mapping_2 : decode cX1_mapping 2 = .ok (.if_icmp .lt 9, 3) := by decide +kernel
theorem dX1_mapping_5 : decode cX1_mapping 5 = .ok (.iload_n 1, 1) := by decide +kernel
theorem dX1_mapping_6 : decode cX1_mapping 6 = .ok (.bipush 16, 2) := by decide +kernel
theorem dX1_mapping_8 : decode cX1_mapping 8 = .ok (.if_icmp .le 5, 3) := by decide +kernel
theorem dX1_mapping_11 : decode cX1_mapping 11 = .ok (.iconst 0, 1) := by decide +kernel
theorem dX1_mapping_12 : decode cX1_mapping 12 = .ok (.ireturn, 1) := by decide +kernel
theorem dX1_mapping_13 : decode cX1_mapping 13 = .ok (.aload_n 0, 1) := by decide +kernel
theorem dX1_mapping_14 : decode cX1_mapping 14 = .ok (.iload_n 1, 1) := by decide +kernel
theorem dX1_mapping_15 : decode cX1_mapping 15 = .ok (.putfield 63, 3) := by decide +kernel
theorem dX1_mapping_18 : decode cX1_mapping 18 = .ok (.aload_n 0, 1) := by decide +kernel
theorem dX1_mapping_19 : decode cX1_mapping 19 = .ok (.iload_n 2, 1) := by decide +kernel
theorem dX1_mapping_20 : decode cX1_mapping 20 = .ok (.putfield 66, 3) := by decide +kernel
theorem dX1_mapping_23 : decode cX1_mapping 23 = .ok (.aload_n 0, 1) := by decide +kernel
theorem dX1_mapping_24 : decode cX1_mapping 24 = .ok (.iload_n 3, 1) := by decide +kernel
theorem dX1_mapping_25 : decode cX1_mapping 25 = .ok (.putfield 77, 3) := by decide +kernel
theorem dX1_mapping_28 : decode cX1_mapping 28 = .ok (.iconst 1, 1) := by decide +kernel
theorem dX1_mapping_29 : decode cX1_mapping 29 = .ok (.ireturn, 1) := by decide +kernel
theorem dX1_bounds_0 : decode cX1_bounds 0 = .ok (.aload_n 0, 1) := by decide +kernel
theorem dX1_bounds_1 : decode cX1_bounds 1 = .ok (.iload_n 1, 1) := by decide +kernel
theorem dX1_bounds_2 : decode cX1_bounds 2 = .ok (.putfield 70, 3) := by decide +kernel
theorem dX1_bounds_5 : decode cX1_bounds 5 = .ok (.aload_n 0, 1) := by decide +kernel
theorem dX1_bounds_6 : decode cX1_bounds 6 = .ok (.iload_n 2, 1) := by decide +kernel
theorem dX1_bounds_7 : decode cX1_bounds 7 = .ok (.putfield 74, 3) := by decide +kernel
theorem dX1_bounds_10 : decode cX1_bounds 10 = .ok (.return_, 1) := by decide +kernel
theorem dX1_failures_0 : decode cX1_failures 0 = .ok (.iload_n 2, 1) := by decide +kernel
theorem dX1_failures_1 : decode cX1_failures 1 = .ok (.ifCond .lt 17, 3) := by decide +kernel
theorem dX1_failures_4 : decode cX1_failures 4 = .ok (.iload_n 2, 1) := by decide +kernel
theorem dX1_failures_5 : decode cX1_failures 5 = .ok (.iconst 3, 1) := by decide +kernel
theorem dX1_failures_6 : decode cX1_failures 6 = .ok (.if_icmp .gt 12, 3) := by decide +kernel
theorem dX1_failures_9 : decode cX1_failures 9 = .ok (.iload_n 3, 1) := by decide +kernel
theorem dX1_failures_10 : decode cX1_failures 10 = .ok (.ifCond .lt 8, 3) := by decide +kernel
theorem dX1_failures_13 : decode cX1_failures 13 = .ok (.iload_n 3, 1) := by decide +kernel
theorem dX1_failures_14 : decode cX1_failures 14 = .ok (.iconst 3, 1) := by decide +kernel
theorem dX1_failures_15 : decode cX1_failures 15 = .ok (.if_icmp .le 5, 3) := by decide +kernel
theorem dX1_failures_18 : decode cX1_failures 18 = .ok (.iconst 0, 1) := by decide +kernel
theorem dX1_failures_19 : decode cX1_failures 19 = .ok (.ireturn, 1) := by decide +kernel
theorem dX1_failures_20 : decode cX1_failures 20 = .ok (.iload_n 1, 1) := by decide +kernel
theorem dX1_failures_21 : decode cX1_failures 21 = .ok (.ifCond .eq 13, 3) := by decide +kernel
theorem dX1_failures_24 : decode cX1_failures 24 = .ok (.iload_n 2, 1) := by decide +kernel
theorem dX1_failures_25 : decode cX1_failures 25 = .ok (.aload_n 0, 1) := by decide +kernel
theorem dX1_failures_26 : decode cX1_failures 26 = .ok (.getfield 56, 3) := by decide +kernel
theorem dX1_failures_29 : decode cX1_failures 29 = .ok (.if_icmp .lt 5, 3) := by decide +kernel
theorem dX1_failures_32 : decode cX1_failures 32 = .ok (.iconst 0, 1) := by decide +kernel
theorem dX1_failures_33 : decode cX1_failures 33 = .ok (.ireturn, 1) := by decide +kernel
theorem dX1_failures_34 : decode cX1_failures 34 = .ok (.iload_n 1, 1) := by decide +kernel
theorem dX1_failures_35 : decode cX1_failures 35 = .ok (.ifCond .eq 14, 3) := by decide +kernel
theorem dX1_failures_38 : decode cX1_failures 38 = .ok (.aload_n 0, 1) := by decide +kernel
theorem dX1_failures_39 : decode cX1_failures 39 = .ok (.getfield 23, 3) := by decide +kernel
theorem dX1_failures_42 : decode cX1_failures 42 = .ok (.iload_n 2, 1) := by decide +kernel
theorem dX1_failures_43 : decode cX1_failures 43 = .ok (.iload_n 3, 1) := by decide +kernel
theorem dX1_failures_44 : decode cX1_failures 44 = .ok (.i2b, 1) := by decide +kernel
theorem dX1_failures_45 : decode cX1_failures 45 = .ok (.bastore, 1) := by decide +kernel
theorem dX1_failures_46 : decode cX1_failures 46 = .ok (.goto 11, 3) := by decide +kernel
theorem dX1_failures_49 : decode cX1_failures 49 = .ok (.aload_n 0, 1) := by decide +kernel
theorem dX1_failures_50 : decode cX1_failures 50 = .ok (.getfield 20, 3) := by decide +kernel
theorem dX1_failures_53 : decode cX1_failures 53 = .ok (.iload_n 2, 1) := by decide +kernel
theorem dX1_failures_54 : decode cX1_failures 54 = .ok (.iload_n 3, 1) := by decide +kernel
theorem dX1_failures_55 : decode cX1_failures 55 = .ok (.i2b, 1) := by decide +kernel
theorem dX1_failures_56 : decode cX1_failures 56 = .ok (.bastore, 1) := by decide +kernel
theorem dX1_failures_57 : decode cX1_failures 57 = .ok (.iconst 1, 1) := by decide +kernel
theorem dX1_failures_58 : decode cX1_failures 58 = .ok (.ireturn, 1) := by decide +kernel
theorem dX1_run_0 : decode cX1_run 0 = .ok (.iload_n 1, 1) := by decide +kernel
theorem dX1_run_1 : decode cX1_run 1 = .ok (.ifCond .lt 8, 3) := by decide +kernel
theorem dX1_run_4 : decode cX1_run 4 = .ok (.iload_n 1, 1) := by decide +kernel
theorem dX1_run_5 : decode cX1_run 5 = .ok (.iconst 4, 1) := by decide +kernel
theorem dX1_run_6 : decode cX1_run 6 = .ok (.if_icmp .le 5, 3) := by decide +kernel
theorem dX1_run_9 : decode cX1_run 9 = .ok (.iconst (-1), 1) := by decide +kernel
theorem dX1_run_10 : decode cX1_run 10 = .ok (.ireturn, 1) := by decide +kernel
theorem dX1_run_11 : decode cX1_run 11 = .ok (.aload_n 0, 1) := by decide +kernel
theorem dX1_run_12 : decode cX1_run 12 = .ok (.iload_n 1, 1) := by decide +kernel
theorem dX1_run_13 : decode cX1_run 13 = .ok (.putfield 80, 3) := by decide +kernel
theorem dX1_run_16 : decode cX1_run 16 = .ok (.aload_n 0, 1) := by decide +kernel
theorem dX1_run_17 : decode cX1_run 17 = .ok (.invokevirtual 83, 3) := by decide +kernel
theorem dX1_run_20 : decode cX1_run 20 = .ok (.bipush 6, 2) := by decide +kernel
theorem dX1_run_22 : decode cX1_run 22 = .ok (.if_icmp .le 7, 3) := by decide +kernel
theorem dX1_run_25 : decode cX1_run 25 = .ok (.iconst 1, 1) := by decide +kernel
theorem dX1_run_26 : decode cX1_run 26 = .ok (.goto 4, 3) := by decide +kernel
theorem dX1_run_29 : decode cX1_run 29 = .ok (.iconst 0, 1) := by decide +kernel
theorem dX1_run_30 : decode cX1_run 30 = .ok (.istore_n 2, 1) := by decide +kernel
theorem dX1_run_31 : decode cX1_run 31 = .ok (.aload_n 0, 1) := by decide +kernel
theorem dX1_run_32 : decode cX1_run 32 = .ok (.iconst 0, 1) := by decide +kernel
theorem dX1_run_33 : decode cX1_run 33 = .ok (.putfield 87, 3) := by decide +kernel
theorem dX1_run_36 : decode cX1_run 36 = .ok (.aload_n 0, 1) := by decide +kernel
theorem dX1_run_37 : decode cX1_run 37 = .ok (.iconst 0, 1) := by decide +kernel
theorem dX1_run_38 : decode cX1_run 38 = .ok (.putfield 90, 3) := by decide +kernel
theorem dX1_run_41 : decode cX1_run 41 = .ok (.aload_n 0, 1) := by decide +kernel
theorem dX1_run_42 : decode cX1_run 42 = .ok (.iconst 0, 1) := by decide +kernel
theorem dX1_run_43 : decode cX1_run 43 = .ok (.putfield 93, 3) := by decide +kernel
theorem dX1_run_46 : decode cX1_run 46 = .ok (.iconst 0, 1) := by decide +kernel
theorem dX1_run_47 : decode cX1_run 47 = .ok (.istore_n 3, 1) := by decide +kernel
theorem dX1_run_48 : decode cX1_run 48 = .ok (.iload_n 3, 1) := by decide +kernel
theorem dX1_run_49 : decode cX1_run 49 = .ok (.iconst 4, 1) := by decide +kernel
theorem dX1_run_50 : decode cX1_run 50 = .ok (.if_icmp .ge 14, 3) := by decide +kernel
theorem dX1_run_53 : decode cX1_run 53 = .ok (.aload_n 0, 1) := by decide +kernel
theorem dX1_run_54 : decode cX1_run 54 = .ok (.iload_n 3, 1) := by decide +kernel
theorem dX1_run_55 : decode cX1_run 55 = .ok (.invokevirtual 96, 3) := by decide +kernel
theorem dX1_run_58 : decode cX1_run 58 = .ok (.iinc 3 1, 3) := by decide +kernel
theorem dX1_run_61 : decode cX1_run 61 = .ok (.goto (-13), 3) := by decide +kernel
theorem dX1_run_64 : decode cX1_run 64 = .ok (.aload_n 0, 1) := by decide +kernel
theorem dX1_run_65 : decode cX1_run 65 = .ok (.iconst 0, 1) := by decide +kernel
theorem dX1_run_66 : decode cX1_run 66 = .ok (.putfield 100, 3) := by decide +kernel
theorem dX1_run_69 : decode cX1_run 69 = .ok (.iconst 0, 1) := by decide +kernel
theorem dX1_run_70 : decode cX1_run 70 = .ok (.istore_n 3, 1) := by decide +kernel
theorem dX1_run_71 : decode cX1_run 71 = .ok (.iload_n 3, 1) := by decide +kernel
theorem dX1_run_72 : decode cX1_run 72 = .ok (.iconst 4, 1) := by decide +kernel
theorem dX1_run_73 : decode cX1_run 73 = .ok (.if_icmp .ge 51, 3) := by decide +kernel
theorem dX1_run_76 : decode cX1_run 76 = .ok (.aload_n 0, 1) := by decide +kernel
theorem dX1_run_77 : decode cX1_run 77 = .ok (.getfield 47, 3) := by decide +kernel
theorem dX1_run_80 : decode cX1_run 80 = .ok (.iload_n 3, 1) := by decide +kernel
theorem dX1_run_81 : decode cX1_run 81 = .ok (.aload_n 0, 1) := by decide +kernel
theorem dX1_run_82 : decode cX1_run 82 = .ok (.getfield 100, 3) := by decide +kernel
theorem dX1_run_85 : decode cX1_run 85 = .ok (.i2b, 1) := by decide +kernel
theorem dX1_run_86 : decode cX1_run 86 = .ok (.bastore, 1) := by decide +kernel
theorem dX1_run_87 : decode cX1_run 87 = .ok (.iload_n 2, 1) := by decide +kernel
theorem dX1_run_88 : decode cX1_run 88 = .ok (.ifCond .ne 16, 3) := by decide +kernel
theorem dX1_run_91 : decode cX1_run 91 = .ok (.iload_n 3, 1) := by decide +kernel
theorem dX1_run_92 : decode cX1_run 92 = .ok (.aload_n 0, 1) := by decide +kernel
theorem dX1_run_93 : decode cX1_run 93 = .ok (.getfield 56, 3) := by decide +kernel
theorem dX1_run_96 : decode cX1_run 96 = .ok (.if_icmp .ge 8, 3) := by decide +kernel
theorem dX1_run_99 : decode cX1_run 99 = .ok (.aload_n 0, 1) := by decide +kernel
theorem dX1_run_100 : decode cX1_run 100 = .ok (.iload_n 3, 1) := by decide +kernel
theorem dX1_run_101 : decode cX1_run 101 = .ok (.invokevirtual 103, 3) := by decide +kernel
theorem dX1_run_104 : decode cX1_run 104 = .ok (.aload_n 0, 1) := by decide +kernel
theorem dX1_run_105 : decode cX1_run 105 = .ok (.getfield 20, 3) := by decide +kernel
theorem dX1_run_108 : decode cX1_run 108 = .ok (.iload_n 3, 1) := by decide +kernel
theorem dX1_run_109 : decode cX1_run 109 = .ok (.iconst 0, 1) := by decide +kernel
theorem dX1_run_110 : decode cX1_run 110 = .ok (.bastore, 1) := by decide +kernel
theorem dX1_run_111 : decode cX1_run 111 = .ok (.aload_n 0, 1) := by decide +kernel
theorem dX1_run_112 : decode cX1_run 112 = .ok (.getfield 23, 3) := by decide +kernel
theorem dX1_run_115 : decode cX1_run 115 = .ok (.iload_n 3, 1) := by decide +kernel
theorem dX1_run_116 : decode cX1_run 116 = .ok (.iconst 0, 1) := by decide +kernel
theorem dX1_run_117 : decode cX1_run 117 = .ok (.bastore, 1) := by decide +kernel
theorem dX1_run_118 : decode cX1_run 118 = .ok (.iinc 3 1, 3) := by decide +kernel
theorem dX1_run_121 : decode cX1_run 121 = .ok (.goto (-50), 3) := by decide +kernel
theorem dX1_run_124 : decode cX1_run 124 = .ok (.aload_n 0, 1) := by decide +kernel
theorem dX1_run_125 : decode cX1_run 125 = .ok (.getfield 47, 3) := by decide +kernel
theorem dX1_run_128 : decode cX1_run 128 = .ok (.iconst 4, 1) := by decide +kernel
theorem dX1_run_129 : decode cX1_run 129 = .ok (.aload_n 0, 1) := by decide +kernel
theorem dX1_run_130 : decode cX1_run 130 = .ok (.getfield 100, 3) := by decide +kernel
theorem dX1_run_133 : decode cX1_run 133 = .ok (.i2b, 1) := by decide +kernel
theorem dX1_run_134 : decode cX1_run 134 = .ok (.bastore, 1) := by decide +kernel
theorem dX1_run_135 : decode cX1_run 135 = .ok (.iload_n 2, 1) := by decide +kernel
theorem dX1_run_136 : decode cX1_run 136 = .ok (.ifCond .eq 8, 3) := by decide +kernel
theorem dX1_run_139 : decode cX1_run 139 = .ok (.bipush (-3), 2) := by decide +kernel
theorem dX1_run_141 : decode cX1_run 141 = .ok (.goto 7, 3) := by decide +kernel
theorem dX1_run_144 : decode cX1_run 144 = .ok (.aload_n 0, 1) := by decide +kernel
theorem dX1_run_145 : decode cX1_run 145 = .ok (.getfield 100, 3) := by decide +kernel
theorem dX1_run_148 : decode cX1_run 148 = .ok (.ireturn, 1) := by decide +kernel
theorem dX1_failuresToCome_0 : decode cX1_failuresToCome 0 = .ok (.iconst 0, 1) := by decide +kernel
theorem dX1_failuresToCome_1 : decode cX1_failuresToCome 1 = .ok (.istore_n 1, 1) := by decide +kernel
theorem dX1_failuresToCome_2 : decode cX1_failuresToCome 2 = .ok (.iconst 0, 1) := by decide +kernel
theorem dX1_failuresToCome_3 : decode cX1_failuresToCome 3 = .ok (.istore_n 2, 1) := by decide +kernel
theorem dX1_failuresToCome_4 : decode cX1_failuresToCome 4 = .ok (.iload_n 2, 1) := by decide +kernel
theorem dX1_failuresToCome_5 : decode cX1_failuresToCome 5 = .ok (.iconst 4, 1) := by decide +kernel
theorem dX1_failuresToCome_6 : decode cX1_failuresToCome 6 = .ok (.if_icmp .ge 25, 3) := by decide +kernel
theorem dX1_failuresToCome_9 : decode cX1_failuresToCome 9 = .ok (.iload_n 1, 1) := by decide +kernel
theorem dX1_failuresToCome_10 : decode cX1_failuresToCome 10 = .ok (.aload_n 0, 1) := by decide +kernel
theorem dX1_failuresToCome_11 : decode cX1_failuresToCome 11 = .ok (.getfield 20, 3) := by decide +kernel
theorem dX1_failuresToCome_14 : decode cX1_failuresToCome 14 = .ok (.iload_n 2, 1) := by decide +kernel
theorem dX1_failuresToCome_15 : decode cX1_failuresToCome 15 = .ok (.baload, 1) := by decide +kernel
theorem dX1_failuresToCome_16 : decode cX1_failuresToCome 16 = .ok (.aload_n 0, 1) := by decide +kernel
theorem dX1_failuresToCome_17 : decode cX1_failuresToCome 17 = .ok (.getfield 23, 3) := by decide +kernel
theorem dX1_failuresToCome_20 : decode cX1_failuresToCome 20 = .ok (.iload_n 2, 1) := by decide +kernel
theorem dX1_failuresToCome_21 : decode cX1_failuresToCome 21 = .ok (.baload, 1) := by decide +kernel
theorem dX1_failuresToCome_22 : decode cX1_failuresToCome 22 = .ok (.iadd, 1) := by decide +kernel
theorem dX1_failuresToCome_23 : decode cX1_failuresToCome 23 = .ok (.iadd, 1) := by decide +kernel
theorem dX1_failuresToCome_24 : decode cX1_failuresToCome 24 = .ok (.istore_n 1, 1) := by decide +kernel
theorem dX1_failuresToCome_25 : decode cX1_failuresToCome 25 = .ok (.iinc 2 1, 3) := by decide +kernel
theorem dX1_failuresToCome_28 : decode cX1_failuresToCome 28 = .ok (.goto (-24), 3) := by decide +kernel
theorem dX1_failuresToCome_31 : decode cX1_failuresToCome 31 = .ok (.iload_n 1, 1) := by decide +kernel
theorem dX1_failuresToCome_32 : decode cX1_failuresToCome 32 = .ok (.ireturn, 1) := by decide +kernel
theorem dX1_mapSplit_0 : decode cX1_mapSplit 0 = .ok (.aload_n 0, 1) := by decide +kernel
theorem dX1_mapSplit_1 : decode cX1_mapSplit 1 = .ok (.getfield 90, 3) := by decide +kernel
theorem dX1_mapSplit_4 : decode cX1_mapSplit 4 = .ok (.istore_n 2, 1) := by decide +kernel
theorem dX1_mapSplit_5 : decode cX1_mapSplit 5 = .ok (.aload_n 0, 1) := by decide +kernel
theorem dX1_mapSplit_6 : decode cX1_mapSplit 6 = .ok (.getfield 93, 3) := by decide +kernel
theorem dX1_mapSplit_9 : decode cX1_mapSplit 9 = .ok (.istore_n 3, 1) := by decide +kernel
theorem dX1_mapSplit_10 : decode cX1_mapSplit 10 = .ok (.aload_n 0, 1) := by decide +kernel
theorem dX1_mapSplit_11 : decode cX1_mapSplit 11 = .ok (.getfield 87, 3) := by decide +kernel
theorem dX1_mapSplit_14 : decode cX1_mapSplit 14 = .ok (.istore 4, 2) := by decide +kernel
theorem dX1_mapSplit_16 : decode cX1_mapSplit 16 = .ok (.aload_n 0, 1) := by decide +kernel
theorem dX1_mapSplit_17 : decode cX1_mapSplit 17 = .ok (.getfield 20, 3) := by decide +kernel
theorem dX1_mapSplit_20 : decode cX1_mapSplit 20 = .ok (.iload_n 1, 1) := by decide +kernel
theorem dX1_mapSplit_21 : decode cX1_mapSplit 21 = .ok (.baload, 1) := by decide +kernel
theorem dX1_mapSplit_22 : decode cX1_mapSplit 22 = .ok (.istore 5, 2) := by decide +kernel
theorem dX1_mapSplit_24 : decode cX1_mapSplit 24 = .ok (.iload 5, 2) := by decide +kernel
theorem dX1_mapSplit_26 : decode cX1_mapSplit 26 = .ok (.ifCond .lt 92, 3) := by decide +kernel
theorem dX1_mapSplit_29 : decode cX1_mapSplit 29 = .ok (.aload_n 0, 1) := by decide +kernel
theorem dX1_mapSplit_30 : decode cX1_mapSplit 30 = .ok (.iload_n 2, 1) := by decide +kernel
theorem dX1_mapSplit_31 : decode cX1_mapSplit 31 = .ok (.putfield 90, 3) := by decide +kernel
theorem dX1_mapSplit_34 : decode cX1_mapSplit 34 = .ok (.aload_n 0, 1) := by decide +kernel
theorem dX1_mapSplit_35 : decode cX1_mapSplit 35 = .ok (.iload_n 3, 1) := by decide +kernel
theorem dX1_mapSplit_36 : decode cX1_mapSplit 36 = .ok (.putfield 93, 3) := by decide +kernel
theorem dX1_mapSplit_39 : decode cX1_mapSplit 39 = .ok (.aload_n 0, 1) := by decide +kernel
theorem dX1_mapSplit_40 : decode cX1_mapSplit 40 = .ok (.iload 4, 2) := by decide +kernel
theorem dX1_mapSplit_42 : decode cX1_mapSplit 42 = .ok (.putfield 87, 3) := by decide +kernel
theorem dX1_mapSplit_45 : decode cX1_mapSplit 45 = .ok (.aload_n 0, 1) := by decide +kernel
theorem dX1_mapSplit_46 : decode cX1_mapSplit 46 = .ok (.iconst 0, 1) := by decide +kernel
theorem dX1_mapSplit_47 : decode cX1_mapSplit 47 = .ok (.putfield 110, 3) := by decide +kernel
theorem dX1_mapSplit_50 : decode cX1_mapSplit 50 = .ok (.iload 5, 2) := by decide +kernel
theorem dX1_mapSplit_52 : decode cX1_mapSplit 52 = .ok (.ifCond .le 14, 3) := by decide +kernel
theorem dX1_mapSplit_55 : decode cX1_mapSplit 55 = .ok (.aload_n 0, 1) := by decide +kernel
theorem dX1_mapSplit_56 : decode cX1_mapSplit 56 = .ok (.getfield 7, 3) := by decide +kernel
theorem dX1_mapSplit_59 : decode cX1_mapSplit 59 = .ok (.iload_n 1, 1) := by decide +kernel
theorem dX1_mapSplit_60 : decode cX1_mapSplit 60 = .ok (.baload, 1) := by decide +kernel
theorem dX1_mapSplit_61 : decode cX1_mapSplit 61 = .ok (.iconst 2, 1) := by decide +kernel
theorem dX1_mapSplit_62 : decode cX1_mapSplit 62 = .ok (.idiv, 1) := by decide +kernel
theorem dX1_mapSplit_63 : decode cX1_mapSplit 63 = .ok (.goto 9, 3) := by decide +kernel
theorem dX1_mapSplit_66 : decode cX1_mapSplit 66 = .ok (.aload_n 0, 1) := by decide +kernel
theorem dX1_mapSplit_67 : decode cX1_mapSplit 67 = .ok (.getfield 7, 3) := by decide +kernel
theorem dX1_mapSplit_70 : decode cX1_mapSplit 70 = .ok (.iload_n 1, 1) := by decide +kernel
theorem dX1_mapSplit_71 : decode cX1_mapSplit 71 = .ok (.baload, 1) := by decide +kernel
theorem dX1_mapSplit_72 : decode cX1_mapSplit 72 = .ok (.istore 6, 2) := by decide +kernel
theorem dX1_mapSplit_74 : decode cX1_mapSplit 74 = .ok (.iconst 0, 1) := by decide +kernel
theorem dX1_mapSplit_75 : decode cX1_mapSplit 75 = .ok (.istore 7, 2) := by decide +kernel
theorem dX1_mapSplit_77 : decode cX1_mapSplit 77 = .ok (.iload 7, 2) := by decide +kernel
theorem dX1_mapSplit_79 : decode cX1_mapSplit 79 = .ok (.iload 6, 2) := by decide +kernel
theorem dX1_mapSplit_81 : decode cX1_mapSplit 81 = .ok (.if_icmp .ge 20, 3) := by decide +kernel
theorem dX1_mapSplit_84 : decode cX1_mapSplit 84 = .ok (.aload_n 0, 1) := by decide +kernel
theorem dX1_mapSplit_85 : decode cX1_mapSplit 85 = .ok (.bipush 16, 2) := by decide +kernel
theorem dX1_mapSplit_87 : decode cX1_mapSplit 87 = .ok (.iload_n 1, 1) := by decide +kernel
theorem dX1_mapSplit_88 : decode cX1_mapSplit 88 = .ok (.imul, 1) := by decide +kernel
theorem dX1_mapSplit_89 : decode cX1_mapSplit 89 = .ok (.iload 7, 2) := by decide +kernel
theorem dX1_mapSplit_91 : decode cX1_mapSplit 91 = .ok (.iadd, 1) := by decide +kernel
theorem dX1_mapSplit_92 : decode cX1_mapSplit 92 = .ok (.invokevirtual 113, 3) := by decide +kernel
theorem dX1_mapSplit_95 : decode cX1_mapSplit 95 = .ok (.iinc 7 1, 3) := by decide +kernel
theorem dX1_mapSplit_98 : decode cX1_mapSplit 98 = .ok (.goto (-21), 3) := by decide +kernel
theorem dX1_mapSplit_101 : decode cX1_mapSplit 101 = .ok (.aload_n 0, 1) := by decide +kernel
theorem dX1_mapSplit_102 : decode cX1_mapSplit 102 = .ok (.getfield 110, 3) := by decide +kernel
theorem dX1_mapSplit_105 : decode cX1_mapSplit 105 = .ok (.ifCond .le 7, 3) := by decide +kernel
theorem dX1_mapSplit_108 : decode cX1_mapSplit 108 = .ok (.aload_n 0, 1) := by decide +kernel
theorem dX1_mapSplit_109 : decode cX1_mapSplit 109 = .ok (.invokevirtual 116, 3) := by decide +kernel
theorem dX1_mapSplit_112 : decode cX1_mapSplit 112 = .ok (.iinc 5 (-1), 3) := by decide +kernel
theorem dX1_mapSplit_115 : decode cX1_mapSplit 115 = .ok (.goto (-91), 3) := by decide +kernel
theorem dX1_mapSplit_118 : decode cX1_mapSplit 118 = .ok (.return_, 1) := by decide +kernel
theorem dX1_mapRecord_0 : decode cX1_mapRecord 0 = .ok (.aload_n 0, 1) := by decide +kernel
theorem dX1_mapRecord_1 : decode cX1_mapRecord 1 = .ok (.getfield 17, 3) := by decide +kernel
theorem dX1_mapRecord_4 : decode cX1_mapRecord 4 = .ok (.iload_n 1, 1) := by decide +kernel
theorem dX1_mapRecord_5 : decode cX1_mapRecord 5 = .ok (.iaload, 1) := by decide +kernel
end
section
set_option maxRecDepth 100000
theorem dX1_mapRecord_6 : decode cX1_mapRecord 6 = .ok (.istore_n 2, 1) := by decide +kernel
theorem dX1_mapRecord_7 : decode cX1_mapRecord 7 = .ok (.iload_n 2, 1) := by decide +kernel
theorem dX1_mapRecord_8 : decode cX1_mapRecord 8 = .ok (.aload_n 0, 1) := by decide +kernel
theorem dX1_mapRecord_9 : decode cX1_mapRecord 9 = .ok (.getfield 70, 3) := by decide +kernel
theorem dX1_mapRecord_12 : decode cX1_mapRecord 12 = .ok (.if_icmp .lt 11, 3) := by decide +kernel
theorem dX1_mapRecord_15 : decode cX1_mapRecord 15 = .ok (.iload_n 2, 1) := by decide +kernel
theorem dX1_mapRecord_16 : decode cX1_mapRecord 16 = .ok (.aload_n 0, 1) := by decide +kernel
theorem dX1_mapRecord_17 : decode cX1_mapRecord 17 = .ok (.getfield 74, 3) := by decide +kernel
theorem dX1_mapRecord_20 : decode cX1_mapRecord 20 = .ok (.if_icmp .le 4, 3) := by decide +kernel
theorem dX1_mapRecord_23 : decode cX1_mapRecord 23 = .ok (.return_, 1) := by decide +kernel
theorem dX1_mapRecord_24 : decode cX1_mapRecord 24 = .ok (.aload_n 0, 1) := by decide +kernel
theorem dX1_mapRecord_25 : decode cX1_mapRecord 25 = .ok (.dup, 1) := by decide +kernel
theorem dX1_mapRecord_26 : decode cX1_mapRecord 26 = .ok (.getfield 87, 3) := by decide +kernel
theorem dX1_mapRecord_29 : decode cX1_mapRecord 29 = .ok (.iconst 1, 1) := by decide +kernel
theorem dX1_mapRecord_30 : decode cX1_mapRecord 30 = .ok (.iadd, 1) := by decide +kernel
theorem dX1_mapRecord_31 : decode cX1_mapRecord 31 = .ok (.putfield 87, 3) := by decide +kernel
theorem dX1_mapRecord_34 : decode cX1_mapRecord 34 = .ok (.aload_n 0, 1) := by decide +kernel
theorem dX1_mapRecord_35 : decode cX1_mapRecord 35 = .ok (.getfield 13, 3) := by decide +kernel
theorem dX1_mapRecord_38 : decode cX1_mapRecord 38 = .ok (.iload_n 1, 1) := by decide +kernel
theorem dX1_mapRecord_39 : decode cX1_mapRecord 39 = .ok (.iaload, 1) := by decide +kernel
theorem dX1_mapRecord_40 : decode cX1_mapRecord 40 = .ok (.aload_n 0, 1) := by decide +kernel
theorem dX1_mapRecord_41 : decode cX1_mapRecord 41 = .ok (.getfield 63, 3) := by decide +kernel
theorem dX1_mapRecord_44 : decode cX1_mapRecord 44 = .ok (.irem, 1) := by decide +kernel
theorem dX1_mapRecord_45 : decode cX1_mapRecord 45 = .ok (.istore_n 3, 1) := by decide +kernel
theorem dX1_mapRecord_46 : decode cX1_mapRecord 46 = .ok (.iload_n 3, 1) := by decide +kernel
theorem dX1_mapRecord_47 : decode cX1_mapRecord 47 = .ok (.ifCond .ge 10, 3) := by decide +kernel
theorem dX1_mapRecord_50 : decode cX1_mapRecord 50 = .ok (.iload_n 3, 1) := by decide +kernel
theorem dX1_mapRecord_51 : decode cX1_mapRecord 51 = .ok (.aload_n 0, 1) := by decide +kernel
theorem dX1_mapRecord_52 : decode cX1_mapRecord 52 = .ok (.getfield 63, 3) := by decide +kernel
theorem dX1_mapRecord_55 : decode cX1_mapRecord 55 = .ok (.iadd, 1) := by decide +kernel
theorem dX1_mapRecord_56 : decode cX1_mapRecord 56 = .ok (.istore_n 3, 1) := by decide +kernel
theorem dX1_mapRecord_57 : decode cX1_mapRecord 57 = .ok (.aload_n 0, 1) := by decide +kernel
theorem dX1_mapRecord_58 : decode cX1_mapRecord 58 = .ok (.getfield 110, 3) := by decide +kernel
theorem dX1_mapRecord_61 : decode cX1_mapRecord 61 = .ok (.aload_n 0, 1) := by decide +kernel
theorem dX1_mapRecord_62 : decode cX1_mapRecord 62 = .ok (.getfield 60, 3) := by decide +kernel
theorem dX1_mapRecord_65 : decode cX1_mapRecord 65 = .ok (.if_icmp .ne 7, 3) := by decide +kernel
theorem dX1_mapRecord_68 : decode cX1_mapRecord 68 = .ok (.aload_n 0, 1) := by decide +kernel
theorem dX1_mapRecord_69 : decode cX1_mapRecord 69 = .ok (.invokevirtual 116, 3) := by decide +kernel
theorem dX1_mapRecord_72 : decode cX1_mapRecord 72 = .ok (.aload_n 0, 1) := by decide +kernel
theorem dX1_mapRecord_73 : decode cX1_mapRecord 73 = .ok (.getfield 26, 3) := by decide +kernel
theorem dX1_mapRecord_76 : decode cX1_mapRecord 76 = .ok (.aload_n 0, 1) := by decide +kernel
theorem dX1_mapRecord_77 : decode cX1_mapRecord 77 = .ok (.getfield 110, 3) := by decide +kernel
theorem dX1_mapRecord_80 : decode cX1_mapRecord 80 = .ok (.iload_n 3, 1) := by decide +kernel
theorem dX1_mapRecord_81 : decode cX1_mapRecord 81 = .ok (.i2b, 1) := by decide +kernel
theorem dX1_mapRecord_82 : decode cX1_mapRecord 82 = .ok (.bastore, 1) := by decide +kernel
theorem dX1_mapRecord_83 : decode cX1_mapRecord 83 = .ok (.aload_n 0, 1) := by decide +kernel
theorem dX1_mapRecord_84 : decode cX1_mapRecord 84 = .ok (.getfield 29, 3) := by decide +kernel
theorem dX1_mapRecord_87 : decode cX1_mapRecord 87 = .ok (.aload_n 0, 1) := by decide +kernel
theorem dX1_mapRecord_88 : decode cX1_mapRecord 88 = .ok (.getfield 110, 3) := by decide +kernel
theorem dX1_mapRecord_91 : decode cX1_mapRecord 91 = .ok (.aload_n 0, 1) := by decide +kernel
theorem dX1_mapRecord_92 : decode cX1_mapRecord 92 = .ok (.getfield 80, 3) := by decide +kernel
theorem dX1_mapRecord_95 : decode cX1_mapRecord 95 = .ok (.iconst 3, 1) := by decide +kernel
theorem dX1_mapRecord_96 : decode cX1_mapRecord 96 = .ok (.if_icmp .ne 7, 3) := by decide +kernel
theorem dX1_mapRecord_99 : decode cX1_mapRecord 99 = .ok (.iconst 1, 1) := by decide +kernel
theorem dX1_mapRecord_100 : decode cX1_mapRecord 100 = .ok (.goto 14, 3) := by decide +kernel
theorem dX1_mapRecord_103 : decode cX1_mapRecord 103 = .ok (.aload_n 0, 1) := by decide +kernel
theorem dX1_mapRecord_104 : decode cX1_mapRecord 104 = .ok (.getfield 66, 3) := by decide +kernel
theorem dX1_mapRecord_107 : decode cX1_mapRecord 107 = .ok (.iload_n 2, 1) := by decide +kernel
theorem dX1_mapRecord_108 : decode cX1_mapRecord 108 = .ok (.imul, 1) := by decide +kernel
theorem dX1_mapRecord_109 : decode cX1_mapRecord 109 = .ok (.aload_n 0, 1) := by decide +kernel
theorem dX1_mapRecord_110 : decode cX1_mapRecord 110 = .ok (.getfield 77, 3) := by decide +kernel
theorem dX1_mapRecord_113 : decode cX1_mapRecord 113 = .ok (.iadd, 1) := by decide +kernel
theorem dX1_mapRecord_114 : decode cX1_mapRecord 114 = .ok (.iastore, 1) := by decide +kernel
theorem dX1_mapRecord_115 : decode cX1_mapRecord 115 = .ok (.aload_n 0, 1) := by decide +kernel
theorem dX1_mapRecord_116 : decode cX1_mapRecord 116 = .ok (.dup, 1) := by decide +kernel
theorem dX1_mapRecord_117 : decode cX1_mapRecord 117 = .ok (.getfield 110, 3) := by decide +kernel
theorem dX1_mapRecord_120 : decode cX1_mapRecord 120 = .ok (.iconst 1, 1) := by decide +kernel
theorem dX1_mapRecord_121 : decode cX1_mapRecord 121 = .ok (.iadd, 1) := by decide +kernel
theorem dX1_mapRecord_122 : decode cX1_mapRecord 122 = .ok (.putfield 110, 3) := by decide +kernel
theorem dX1_mapRecord_125 : decode cX1_mapRecord 125 = .ok (.return_, 1) := by decide +kernel
theorem dX1_spill_0 : decode cX1_spill 0 = .ok (.aload_n 0, 1) := by decide +kernel
theorem dX1_spill_1 : decode cX1_spill 1 = .ok (.invokevirtual 119, 3) := by decide +kernel
theorem dX1_spill_4 : decode cX1_spill 4 = .ok (.aload_n 0, 1) := by decide +kernel
theorem dX1_spill_5 : decode cX1_spill 5 = .ok (.getfield 80, 3) := by decide +kernel
theorem dX1_spill_8 : decode cX1_spill 8 = .ok (.iconst 4, 1) := by decide +kernel
theorem dX1_spill_9 : decode cX1_spill 9 = .ok (.if_icmp .eq 7, 3) := by decide +kernel
theorem dX1_spill_12 : decode cX1_spill 12 = .ok (.aload_n 0, 1) := by decide +kernel
theorem dX1_spill_13 : decode cX1_spill 13 = .ok (.invokevirtual 122, 3) := by decide +kernel
theorem dX1_spill_16 : decode cX1_spill 16 = .ok (.iconst 0, 1) := by decide +kernel
theorem dX1_spill_17 : decode cX1_spill 17 = .ok (.istore_n 1, 1) := by decide +kernel
theorem dX1_spill_18 : decode cX1_spill 18 = .ok (.iconst 0, 1) := by decide +kernel
theorem dX1_spill_19 : decode cX1_spill 19 = .ok (.istore_n 2, 1) := by decide +kernel
theorem dX1_spill_20 : decode cX1_spill 20 = .ok (.iload_n 2, 1) := by decide +kernel
theorem dX1_spill_21 : decode cX1_spill 21 = .ok (.iconst 4, 1) := by decide +kernel
theorem dX1_spill_22 : decode cX1_spill 22 = .ok (.if_icmp .ge 96, 3) := by decide +kernel
theorem dX1_spill_25 : decode cX1_spill 25 = .ok (.aload_n 0, 1) := by decide +kernel
theorem dX1_spill_26 : decode cX1_spill 26 = .ok (.getfield 38, 3) := by decide +kernel
theorem dX1_spill_29 : decode cX1_spill 29 = .ok (.iconst 5, 1) := by decide +kernel
theorem dX1_spill_30 : decode cX1_spill 30 = .ok (.aload_n 0, 1) := by decide +kernel
theorem dX1_spill_31 : decode cX1_spill 31 = .ok (.getfield 90, 3) := by decide +kernel
theorem dX1_spill_34 : decode cX1_spill 34 = .ok (.imul, 1) := by decide +kernel
theorem dX1_spill_35 : decode cX1_spill 35 = .ok (.iload_n 2, 1) := by decide +kernel
theorem dX1_spill_36 : decode cX1_spill 36 = .ok (.iadd, 1) := by decide +kernel
theorem dX1_spill_37 : decode cX1_spill 37 = .ok (.aload_n 0, 1) := by decide +kernel
theorem dX1_spill_38 : decode cX1_spill 38 = .ok (.getfield 93, 3) := by decide +kernel
theorem dX1_spill_41 : decode cX1_spill 41 = .ok (.i2b, 1) := by decide +kernel
theorem dX1_spill_42 : decode cX1_spill 42 = .ok (.bastore, 1) := by decide +kernel
theorem dX1_spill_43 : decode cX1_spill 43 = .ok (.iload_n 1, 1) := by decide +kernel
theorem dX1_spill_44 : decode cX1_spill 44 = .ok (.aload_n 0, 1) := by decide +kernel
theorem dX1_spill_45 : decode cX1_spill 45 = .ok (.getfield 110, 3) := by decide +kernel
theorem dX1_spill_48 : decode cX1_spill 48 = .ok (.if_icmp .ge 64, 3) := by decide +kernel
theorem dX1_spill_51 : decode cX1_spill 51 = .ok (.aload_n 0, 1) := by decide +kernel
theorem dX1_spill_52 : decode cX1_spill 52 = .ok (.getfield 26, 3) := by decide +kernel
theorem dX1_spill_55 : decode cX1_spill 55 = .ok (.iload_n 1, 1) := by decide +kernel
theorem dX1_spill_56 : decode cX1_spill 56 = .ok (.baload, 1) := by decide +kernel
theorem dX1_spill_57 : decode cX1_spill 57 = .ok (.aload_n 0, 1) := by decide +kernel
theorem dX1_spill_58 : decode cX1_spill 58 = .ok (.getfield 56, 3) := by decide +kernel
theorem dX1_spill_61 : decode cX1_spill 61 = .ok (.irem, 1) := by decide +kernel
theorem dX1_spill_62 : decode cX1_spill 62 = .ok (.iload_n 2, 1) := by decide +kernel
theorem dX1_spill_63 : decode cX1_spill 63 = .ok (.if_icmp .ne 49, 3) := by decide +kernel
theorem dX1_spill_66 : decode cX1_spill 66 = .ok (.aload_n 0, 1) := by decide +kernel
theorem dX1_spill_67 : decode cX1_spill 67 = .ok (.getfield 32, 3) := by decide +kernel
theorem dX1_spill_70 : decode cX1_spill 70 = .ok (.aload_n 0, 1) := by decide +kernel
theorem dX1_spill_71 : decode cX1_spill 71 = .ok (.getfield 93, 3) := by decide +kernel
theorem dX1_spill_74 : decode cX1_spill 74 = .ok (.aload_n 0, 1) := by decide +kernel
theorem dX1_spill_75 : decode cX1_spill 75 = .ok (.getfield 26, 3) := by decide +kernel
theorem dX1_spill_78 : decode cX1_spill 78 = .ok (.iload_n 1, 1) := by decide +kernel
theorem dX1_spill_79 : decode cX1_spill 79 = .ok (.baload, 1) := by decide +kernel
theorem dX1_spill_80 : decode cX1_spill 80 = .ok (.bastore, 1) := by decide +kernel
theorem dX1_spill_81 : decode cX1_spill 81 = .ok (.aload_n 0, 1) := by decide +kernel
theorem dX1_spill_82 : decode cX1_spill 82 = .ok (.getfield 35, 3) := by decide +kernel
theorem dX1_spill_85 : decode cX1_spill 85 = .ok (.aload_n 0, 1) := by decide +kernel
theorem dX1_spill_86 : decode cX1_spill 86 = .ok (.getfield 93, 3) := by decide +kernel
theorem dX1_spill_89 : decode cX1_spill 89 = .ok (.aload_n 0, 1) := by decide +kernel
theorem dX1_spill_90 : decode cX1_spill 90 = .ok (.getfield 29, 3) := by decide +kernel
theorem dX1_spill_93 : decode cX1_spill 93 = .ok (.iload_n 1, 1) := by decide +kernel
theorem dX1_spill_94 : decode cX1_spill 94 = .ok (.iaload, 1) := by decide +kernel
theorem dX1_spill_95 : decode cX1_spill 95 = .ok (.iastore, 1) := by decide +kernel
theorem dX1_spill_96 : decode cX1_spill 96 = .ok (.aload_n 0, 1) := by decide +kernel
theorem dX1_spill_97 : decode cX1_spill 97 = .ok (.dup, 1) := by decide +kernel
theorem dX1_spill_98 : decode cX1_spill 98 = .ok (.getfield 93, 3) := by decide +kernel
theorem dX1_spill_101 : decode cX1_spill 101 = .ok (.iconst 1, 1) := by decide +kernel
theorem dX1_spill_102 : decode cX1_spill 102 = .ok (.iadd, 1) := by decide +kernel
theorem dX1_spill_103 : decode cX1_spill 103 = .ok (.putfield 93, 3) := by decide +kernel
theorem dX1_spill_106 : decode cX1_spill 106 = .ok (.iinc 1 1, 3) := by decide +kernel
theorem dX1_spill_109 : decode cX1_spill 109 = .ok (.goto (-66), 3) := by decide +kernel
theorem dX1_spill_112 : decode cX1_spill 112 = .ok (.iinc 2 1, 3) := by decide +kernel
theorem dX1_spill_115 : decode cX1_spill 115 = .ok (.goto (-95), 3) := by decide +kernel
theorem dX1_spill_118 : decode cX1_spill 118 = .ok (.aload_n 0, 1) := by decide +kernel
theorem dX1_spill_119 : decode cX1_spill 119 = .ok (.getfield 38, 3) := by decide +kernel
theorem dX1_spill_122 : decode cX1_spill 122 = .ok (.iconst 5, 1) := by decide +kernel
theorem dX1_spill_123 : decode cX1_spill 123 = .ok (.aload_n 0, 1) := by decide +kernel
theorem dX1_spill_124 : decode cX1_spill 124 = .ok (.getfield 90, 3) := by decide +kernel
theorem dX1_spill_127 : decode cX1_spill 127 = .ok (.imul, 1) := by decide +kernel
theorem dX1_spill_128 : decode cX1_spill 128 = .ok (.iconst 4, 1) := by decide +kernel
theorem dX1_spill_129 : decode cX1_spill 129 = .ok (.iadd, 1) := by decide +kernel
theorem dX1_spill_130 : decode cX1_spill 130 = .ok (.aload_n 0, 1) := by decide +kernel
theorem dX1_spill_131 : decode cX1_spill 131 = .ok (.getfield 93, 3) := by decide +kernel
theorem dX1_spill_134 : decode cX1_spill 134 = .ok (.i2b, 1) := by decide +kernel
theorem dX1_spill_135 : decode cX1_spill 135 = .ok (.bastore, 1) := by decide +kernel
theorem dX1_spill_136 : decode cX1_spill 136 = .ok (.aload_n 0, 1) := by decide +kernel
theorem dX1_spill_137 : decode cX1_spill 137 = .ok (.dup, 1) := by decide +kernel
theorem dX1_spill_138 : decode cX1_spill 138 = .ok (.getfield 90, 3) := by decide +kernel
theorem dX1_spill_141 : decode cX1_spill 141 = .ok (.iconst 1, 1) := by decide +kernel
theorem dX1_spill_142 : decode cX1_spill 142 = .ok (.iadd, 1) := by decide +kernel
theorem dX1_spill_143 : decode cX1_spill 143 = .ok (.putfield 90, 3) := by decide +kernel
theorem dX1_spill_146 : decode cX1_spill 146 = .ok (.aload_n 0, 1) := by decide +kernel
theorem dX1_spill_147 : decode cX1_spill 147 = .ok (.iconst 0, 1) := by decide +kernel
theorem dX1_spill_148 : decode cX1_spill 148 = .ok (.putfield 110, 3) := by decide +kernel
theorem dX1_spill_151 : decode cX1_spill 151 = .ok (.return_, 1) := by decide +kernel
theorem dX1_sortBuffer_0 : decode cX1_sortBuffer 0 = .ok (.iconst 1, 1) := by decide +kernel
theorem dX1_sortBuffer_1 : decode cX1_sortBuffer 1 = .ok (.istore_n 1, 1) := by decide +kernel
theorem dX1_sortBuffer_2 : decode cX1_sortBuffer 2 = .ok (.iload_n 1, 1) := by decide +kernel
theorem dX1_sortBuffer_3 : decode cX1_sortBuffer 3 = .ok (.aload_n 0, 1) := by decide +kernel
theorem dX1_sortBuffer_4 : decode cX1_sortBuffer 4 = .ok (.getfield 110, 3) := by decide +kernel
theorem dX1_sortBuffer_7 : decode cX1_sortBuffer 7 = .ok (.if_icmp .ge 102, 3) := by decide +kernel
theorem dX1_sortBuffer_10 : decode cX1_sortBuffer 10 = .ok (.aload_n 0, 1) := by decide +kernel
theorem dX1_sortBuffer_11 : decode cX1_sortBuffer 11 = .ok (.getfield 26, 3) := by decide +kernel
theorem dX1_sortBuffer_14 : decode cX1_sortBuffer 14 = .ok (.iload_n 1, 1) := by decide +kernel
theorem dX1_sortBuffer_15 : decode cX1_sortBuffer 15 = .ok (.baload, 1) := by decide +kernel
theorem dX1_sortBuffer_16 : decode cX1_sortBuffer 16 = .ok (.istore_n 2, 1) := by decide +kernel
theorem dX1_sortBuffer_17 : decode cX1_sortBuffer 17 = .ok (.aload_n 0, 1) := by decide +kernel
theorem dX1_sortBuffer_18 : decode cX1_sortBuffer 18 = .ok (.getfield 29, 3) := by decide +kernel
theorem dX1_sortBuffer_21 : decode cX1_sortBuffer 21 = .ok (.iload_n 1, 1) := by decide +kernel
theorem dX1_sortBuffer_22 : decode cX1_sortBuffer 22 = .ok (.iaload, 1) := by decide +kernel
theorem dX1_sortBuffer_23 : decode cX1_sortBuffer 23 = .ok (.istore_n 3, 1) := by decide +kernel
theorem dX1_sortBuffer_24 : decode cX1_sortBuffer 24 = .ok (.iload_n 1, 1) := by decide +kernel
theorem dX1_sortBuffer_25 : decode cX1_sortBuffer 25 = .ok (.istore 4, 2) := by decide +kernel
theorem dX1_sortBuffer_27 : decode cX1_sortBuffer 27 = .ok (.iload 4, 2) := by decide +kernel
theorem dX1_sortBuffer_29 : decode cX1_sortBuffer 29 = .ok (.ifCond .le 58, 3) := by decide +kernel
theorem dX1_sortBuffer_32 : decode cX1_sortBuffer 32 = .ok (.aload_n 0, 1) := by decide +kernel
theorem dX1_sortBuffer_33 : decode cX1_sortBuffer 33 = .ok (.aload_n 0, 1) := by decide +kernel
theorem dX1_sortBuffer_34 : decode cX1_sortBuffer 34 = .ok (.getfield 26, 3) := by decide +kernel
theorem dX1_sortBuffer_37 : decode cX1_sortBuffer 37 = .ok (.iload 4, 2) := by decide +kernel
theorem dX1_sortBuffer_39 : decode cX1_sortBuffer 39 = .ok (.iconst 1, 1) := by decide +kernel
theorem dX1_sortBuffer_40 : decode cX1_sortBuffer 40 = .ok (.isub, 1) := by decide +kernel
theorem dX1_sortBuffer_41 : decode cX1_sortBuffer 41 = .ok (.baload, 1) := by decide +kernel
theorem dX1_sortBuffer_42 : decode cX1_sortBuffer 42 = .ok (.iload_n 2, 1) := by decide +kernel
theorem dX1_sortBuffer_43 : decode cX1_sortBuffer 43 = .ok (.invokevirtual 125, 3) := by decide +kernel
theorem dX1_sortBuffer_46 : decode cX1_sortBuffer 46 = .ok (.ifCond .eq 41, 3) := by decide +kernel
theorem dX1_sortBuffer_49 : decode cX1_sortBuffer 49 = .ok (.aload_n 0, 1) := by decide +kernel
theorem dX1_sortBuffer_50 : decode cX1_sortBuffer 50 = .ok (.getfield 26, 3) := by decide +kernel
theorem dX1_sortBuffer_53 : decode cX1_sortBuffer 53 = .ok (.iload 4, 2) := by decide +kernel
theorem dX1_sortBuffer_55 : decode cX1_sortBuffer 55 = .ok (.aload_n 0, 1) := by decide +kernel
theorem dX1_sortBuffer_56 : decode cX1_sortBuffer 56 = .ok (.getfield 26, 3) := by decide +kernel
theorem dX1_sortBuffer_59 : decode cX1_sortBuffer 59 = .ok (.iload 4, 2) := by decide +kernel
theorem dX1_sortBuffer_61 : decode cX1_sortBuffer 61 = .ok (.iconst 1, 1) := by decide +kernel
theorem dX1_sortBuffer_62 : decode cX1_sortBuffer 62 = .ok (.isub, 1) := by decide +kernel
theorem dX1_sortBuffer_63 : decode cX1_sortBuffer 63 = .ok (.baload, 1) := by decide +kernel
theorem dX1_sortBuffer_64 : decode cX1_sortBuffer 64 = .ok (.bastore, 1) := by decide +kernel
theorem dX1_sortBuffer_65 : decode cX1_sortBuffer 65 = .ok (.aload_n 0, 1) := by decide +kernel
theorem dX1_sortBuffer_66 : decode cX1_sortBuffer 66 = .ok (.getfield 29, 3) := by decide +kernel
theorem dX1_sortBuffer_69 : decode cX1_sortBuffer 69 = .ok (.iload 4, 2) := by decide +kernel
theorem dX1_sortBuffer_71 : decode cX1_sortBuffer 71 = .ok (.aload_n 0, 1) := by decide +kernel
theorem dX1_sortBuffer_72 : decode cX1_sortBuffer 72 = .ok (.getfield 29, 3) := by decide +kernel
theorem dX1_sortBuffer_75 : decode cX1_sortBuffer 75 = .ok (.iload 4, 2) := by decide +kernel
theorem dX1_sortBuffer_77 : decode cX1_sortBuffer 77 = .ok (.iconst 1, 1) := by decide +kernel
theorem dX1_sortBuffer_78 : decode cX1_sortBuffer 78 = .ok (.isub, 1) := by decide +kernel
theorem dX1_sortBuffer_79 : decode cX1_sortBuffer 79 = .ok (.iaload, 1) := by decide +kernel
theorem dX1_sortBuffer_80 : decode cX1_sortBuffer 80 = .ok (.iastore, 1) := by decide +kernel
theorem dX1_sortBuffer_81 : decode cX1_sortBuffer 81 = .ok (.iinc 4 (-1), 3) := by decide +kernel
theorem dX1_sortBuffer_84 : decode cX1_sortBuffer 84 = .ok (.goto (-57), 3) := by decide +kernel
theorem dX1_sortBuffer_87 : decode cX1_sortBuffer 87 = .ok (.aload_n 0, 1) := by decide +kernel
theorem dX1_sortBuffer_88 : decode cX1_sortBuffer 88 = .ok (.getfield 26, 3) := by decide +kernel
theorem dX1_sortBuffer_91 : decode cX1_sortBuffer 91 = .ok (.iload 4, 2) := by decide +kernel
theorem dX1_sortBuffer_93 : decode cX1_sortBuffer 93 = .ok (.iload_n 2, 1) := by decide +kernel
theorem dX1_sortBuffer_94 : decode cX1_sortBuffer 94 = .ok (.bastore, 1) := by decide +kernel
theorem dX1_sortBuffer_95 : decode cX1_sortBuffer 95 = .ok (.aload_n 0, 1) := by decide +kernel
theorem dX1_sortBuffer_96 : decode cX1_sortBuffer 96 = .ok (.getfield 29, 3) := by decide +kernel
theorem dX1_sortBuffer_99 : decode cX1_sortBuffer 99 = .ok (.iload 4, 2) := by decide +kernel
theorem dX1_sortBuffer_101 : decode cX1_sortBuffer 101 = .ok (.iload_n 3, 1) := by decide +kernel
theorem dX1_sortBuffer_102 : decode cX1_sortBuffer 102 = .ok (.iastore, 1) := by decide +kernel
theorem dX1_sortBuffer_103 : decode cX1_sortBuffer 103 = .ok (.iinc 1 1, 3) := by decide +kernel
theorem dX1_sortBuffer_106 : decode cX1_sortBuffer 106 = .ok (.goto (-104), 3) := by decide +kernel
theorem dX1_sortBuffer_109 : decode cX1_sortBuffer 109 = .ok (.return_, 1) := by decide +kernel
theorem dX1_comesAfter_0 : decode cX1_comesAfter 0 = .ok (.iload_n 1, 1) := by decide +kernel
theorem dX1_comesAfter_1 : decode cX1_comesAfter 1 = .ok (.aload_n 0, 1) := by decide +kernel
theorem dX1_comesAfter_2 : decode cX1_comesAfter 2 = .ok (.getfield 56, 3) := by decide +kernel
theorem dX1_comesAfter_5 : decode cX1_comesAfter 5 = .ok (.irem, 1) := by decide +kernel
theorem dX1_comesAfter_6 : decode cX1_comesAfter 6 = .ok (.istore_n 3, 1) := by decide +kernel
theorem dX1_comesAfter_7 : decode cX1_comesAfter 7 = .ok (.iload_n 2, 1) := by decide +kernel
theorem dX1_comesAfter_8 : decode cX1_comesAfter 8 = .ok (.aload_n 0, 1) := by decide +kernel
theorem dX1_comesAfter_9 : decode cX1_comesAfter 9 = .ok (.getfield 56, 3) := by decide +kernel
theorem dX1_comesAfter_12 : decode cX1_comesAfter 12 = .ok (.irem, 1) := by decide +kernel
theorem dX1_comesAfter_13 : decode cX1_comesAfter 13 = .ok (.istore 4, 2) := by decide +kernel
theorem dX1_comesAfter_15 : decode cX1_comesAfter 15 = .ok (.iload_n 3, 1) := by decide +kernel
theorem dX1_comesAfter_16 : decode cX1_comesAfter 16 = .ok (.iload 4, 2) := by decide +kernel
theorem dX1_comesAfter_18 : decode cX1_comesAfter 18 = .ok (.if_icmp .gt 14, 3) := by decide +kernel
theorem dX1_comesAfter_21 : decode cX1_comesAfter 21 = .ok (.iload_n 3, 1) := by decide +kernel
theorem dX1_comesAfter_22 : decode cX1_comesAfter 22 = .ok (.iload 4, 2) := by decide +kernel
theorem dX1_comesAfter_24 : decode cX1_comesAfter 24 = .ok (.if_icmp .ne 12, 3) := by decide +kernel
theorem dX1_comesAfter_27 : decode cX1_comesAfter 27 = .ok (.iload_n 1, 1) := by decide +kernel
theorem dX1_comesAfter_28 : decode cX1_comesAfter 28 = .ok (.iload_n 2, 1) := by decide +kernel
theorem dX1_comesAfter_29 : decode cX1_comesAfter 29 = .ok (.if_icmp .le 7, 3) := by decide +kernel
theorem dX1_comesAfter_32 : decode cX1_comesAfter 32 = .ok (.iconst 1, 1) := by decide +kernel
theorem dX1_comesAfter_33 : decode cX1_comesAfter 33 = .ok (.goto 4, 3) := by decide +kernel
theorem dX1_comesAfter_36 : decode cX1_comesAfter 36 = .ok (.iconst 0, 1) := by decide +kernel
theorem dX1_comesAfter_37 : decode cX1_comesAfter 37 = .ok (.ireturn, 1) := by decide +kernel
theorem dX1_combineBuffer_0 : decode cX1_combineBuffer 0 = .ok (.iconst 0, 1) := by decide +kernel
theorem dX1_combineBuffer_1 : decode cX1_combineBuffer 1 = .ok (.istore_n 1, 1) := by decide +kernel
theorem dX1_combineBuffer_2 : decode cX1_combineBuffer 2 = .ok (.iconst 1, 1) := by decide +kernel
theorem dX1_combineBuffer_3 : decode cX1_combineBuffer 3 = .ok (.istore_n 2, 1) := by decide +kernel
theorem dX1_combineBuffer_4 : decode cX1_combineBuffer 4 = .ok (.iload_n 2, 1) := by decide +kernel
theorem dX1_combineBuffer_5 : decode cX1_combineBuffer 5 = .ok (.aload_n 0, 1) := by decide +kernel
theorem dX1_combineBuffer_6 : decode cX1_combineBuffer 6 = .ok (.getfield 110, 3) := by decide +kernel
theorem dX1_combineBuffer_9 : decode cX1_combineBuffer 9 = .ok (.if_icmp .ge 76, 3) := by decide +kernel
theorem dX1_combineBuffer_12 : decode cX1_combineBuffer 12 = .ok (.aload_n 0, 1) := by decide +kernel
theorem dX1_combineBuffer_13 : decode cX1_combineBuffer 13 = .ok (.getfield 26, 3) := by decide +kernel
theorem dX1_combineBuffer_16 : decode cX1_combineBuffer 16 = .ok (.iload_n 2, 1) := by decide +kernel
theorem dX1_combineBuffer_17 : decode cX1_combineBuffer 17 = .ok (.baload, 1) := by decide +kernel
theorem dX1_combineBuffer_18 : decode cX1_combineBuffer 18 = .ok (.aload_n 0, 1) := by decide +kernel
theorem dX1_combineBuffer_19 : decode cX1_combineBuffer 19 = .ok (.getfield 26, 3) := by decide +kernel
theorem dX1_combineBuffer_22 : decode cX1_combineBuffer 22 = .ok (.iload_n 1, 1) := by decide +kernel
theorem dX1_combineBuffer_23 : decode cX1_combineBuffer 23 = .ok (.baload, 1) := by decide +kernel
theorem dX1_combineBuffer_24 : decode cX1_combineBuffer 24 = .ok (.if_icmp .ne 28, 3) := by decide +kernel
theorem dX1_combineBuffer_27 : decode cX1_combineBuffer 27 = .ok (.aload_n 0, 1) := by decide +kernel
theorem dX1_combineBuffer_28 : decode cX1_combineBuffer 28 = .ok (.getfield 29, 3) := by decide +kernel
theorem dX1_combineBuffer_31 : decode cX1_combineBuffer 31 = .ok (.iload_n 1, 1) := by decide +kernel
theorem dX1_combineBuffer_32 : decode cX1_combineBuffer 32 = .ok (.aload_n 0, 1) := by decide +kernel
theorem dX1_combineBuffer_33 : decode cX1_combineBuffer 33 = .ok (.aload_n 0, 1) := by decide +kernel
theorem dX1_combineBuffer_34 : decode cX1_combineBuffer 34 = .ok (.getfield 29, 3) := by decide +kernel
theorem dX1_combineBuffer_37 : decode cX1_combineBuffer 37 = .ok (.iload_n 1, 1) := by decide +kernel
theorem dX1_combineBuffer_38 : decode cX1_combineBuffer 38 = .ok (.iaload, 1) := by decide +kernel
theorem dX1_combineBuffer_39 : decode cX1_combineBuffer 39 = .ok (.aload_n 0, 1) := by decide +kernel
theorem dX1_combineBuffer_40 : decode cX1_combineBuffer 40 = .ok (.getfield 29, 3) := by decide +kernel
theorem dX1_combineBuffer_43 : decode cX1_combineBuffer 43 = .ok (.iload_n 2, 1) := by decide +kernel
theorem dX1_combineBuffer_44 : decode cX1_combineBuffer 44 = .ok (.iaload, 1) := by decide +kernel
theorem dX1_combineBuffer_45 : decode cX1_combineBuffer 45 = .ok (.invokevirtual 128, 3) := by decide +kernel
theorem dX1_combineBuffer_48 : decode cX1_combineBuffer 48 = .ok (.iastore, 1) := by decide +kernel
theorem dX1_combineBuffer_49 : decode cX1_combineBuffer 49 = .ok (.goto 30, 3) := by decide +kernel
theorem dX1_combineBuffer_52 : decode cX1_combineBuffer 52 = .ok (.iinc 1 1, 3) := by decide +kernel
theorem dX1_combineBuffer_55 : decode cX1_combineBuffer 55 = .ok (.aload_n 0, 1) := by decide +kernel
theorem dX1_combineBuffer_56 : decode cX1_combineBuffer 56 = .ok (.getfield 26, 3) := by decide +kernel
theorem dX1_combineBuffer_59 : decode cX1_combineBuffer 59 = .ok (.iload_n 1, 1) := by decide +kernel
theorem dX1_combineBuffer_60 : decode cX1_combineBuffer 60 = .ok (.aload_n 0, 1) := by decide +kernel
theorem dX1_combineBuffer_61 : decode cX1_combineBuffer 61 = .ok (.getfield 26, 3) := by decide +kernel
theorem dX1_combineBuffer_64 : decode cX1_combineBuffer 64 = .ok (.iload_n 2, 1) := by decide +kernel
theorem dX1_combineBuffer_65 : decode cX1_combineBuffer 65 = .ok (.baload, 1) := by decide +kernel
theorem dX1_combineBuffer_66 : decode cX1_combineBuffer 66 = .ok (.bastore, 1) := by decide +kernel
theorem dX1_combineBuffer_67 : decode cX1_combineBuffer 67 = .ok (.aload_n 0, 1) := by decide +kernel
theorem dX1_combineBuffer_68 : decode cX1_combineBuffer 68 = .ok (.getfield 29, 3) := by decide +kernel
theorem dX1_combineBuffer_71 : decode cX1_combineBuffer 71 = .ok (.iload_n 1, 1) := by decide +kernel
theorem dX1_combineBuffer_72 : decode cX1_combineBuffer 72 = .ok (.aload_n 0, 1) := by decide +kernel
theorem dX1_combineBuffer_73 : decode cX1_combineBuffer 73 = .ok (.getfield 29, 3) := by decide +kernel
theorem dX1_combineBuffer_76 : decode cX1_combineBuffer 76 = .ok (.iload_n 2, 1) := by decide +kernel
theorem dX1_combineBuffer_77 : decode cX1_combineBuffer 77 = .ok (.iaload, 1) := by decide +kernel
theorem dX1_combineBuffer_78 : decode cX1_combineBuffer 78 = .ok (.iastore, 1) := by decide +kernel
theorem dX1_combineBuffer_79 : decode cX1_combineBuffer 79 = .ok (.iinc 2 1, 3) := by decide +kernel
theorem dX1_combineBuffer_82 : decode cX1_combineBuffer 82 = .ok (.goto (-78), 3) := by decide +kernel
theorem dX1_combineBuffer_85 : decode cX1_combineBuffer 85 = .ok (.aload_n 0, 1) := by decide +kernel
theorem dX1_combineBuffer_86 : decode cX1_combineBuffer 86 = .ok (.iload_n 1, 1) := by decide +kernel
theorem dX1_combineBuffer_87 : decode cX1_combineBuffer 87 = .ok (.iconst 1, 1) := by decide +kernel
theorem dX1_combineBuffer_88 : decode cX1_combineBuffer 88 = .ok (.iadd, 1) := by decide +kernel
theorem dX1_combineBuffer_89 : decode cX1_combineBuffer 89 = .ok (.putfield 110, 3) := by decide +kernel
theorem dX1_combineBuffer_92 : decode cX1_combineBuffer 92 = .ok (.return_, 1) := by decide +kernel
theorem dX1_combined_0 : decode cX1_combined 0 = .ok (.aload_n 0, 1) := by decide +kernel
theorem dX1_combined_1 : decode cX1_combined 1 = .ok (.getfield 80, 3) := by decide +kernel
theorem dX1_combined_4 : decode cX1_combined 4 = .ok (.iconst 1, 1) := by decide +kernel
theorem dX1_combined_5 : decode cX1_combined 5 = .ok (.if_icmp .ne 14, 3) := by decide +kernel
theorem dX1_combined_8 : decode cX1_combined 8 = .ok (.iload_n 1, 1) := by decide +kernel
theorem dX1_combined_9 : decode cX1_combined 9 = .ok (.iload_n 2, 1) := by decide +kernel
theorem dX1_combined_10 : decode cX1_combined 10 = .ok (.if_icmp .le 7, 3) := by decide +kernel
theorem dX1_combined_13 : decode cX1_combined 13 = .ok (.iload_n 1, 1) := by decide +kernel
theorem dX1_combined_14 : decode cX1_combined 14 = .ok (.goto 4, 3) := by decide +kernel
theorem dX1_combined_17 : decode cX1_combined 17 = .ok (.iload_n 2, 1) := by decide +kernel
theorem dX1_combined_18 : decode cX1_combined 18 = .ok (.ireturn, 1) := by decide +kernel
theorem dX1_combined_19 : decode cX1_combined 19 = .ok (.aload_n 0, 1) := by decide +kernel
theorem dX1_combined_20 : decode cX1_combined 20 = .ok (.getfield 80, 3) := by decide +kernel
theorem dX1_combined_23 : decode cX1_combined 23 = .ok (.iconst 2, 1) := by decide +kernel
theorem dX1_combined_24 : decode cX1_combined 24 = .ok (.if_icmp .ne 14, 3) := by decide +kernel
theorem dX1_combined_27 : decode cX1_combined 27 = .ok (.iload_n 1, 1) := by decide +kernel
theorem dX1_combined_28 : decode cX1_combined 28 = .ok (.iload_n 2, 1) := by decide +kernel
theorem dX1_combined_29 : decode cX1_combined 29 = .ok (.if_icmp .ge 7, 3) := by decide +kernel
theorem dX1_combined_32 : decode cX1_combined 32 = .ok (.iload_n 1, 1) := by decide +kernel
theorem dX1_combined_33 : decode cX1_combined 33 = .ok (.goto 4, 3) := by decide +kernel
theorem dX1_combined_36 : decode cX1_combined 36 = .ok (.iload_n 2, 1) := by decide +kernel
theorem dX1_combined_37 : decode cX1_combined 37 = .ok (.ireturn, 1) := by decide +kernel
theorem dX1_combined_38 : decode cX1_combined 38 = .ok (.iload_n 1, 1) := by decide +kernel
theorem dX1_combined_39 : decode cX1_combined 39 = .ok (.iload_n 2, 1) := by decide +kernel
theorem dX1_combined_40 : decode cX1_combined 40 = .ok (.iadd, 1) := by decide +kernel
theorem dX1_combined_41 : decode cX1_combined 41 = .ok (.ireturn, 1) := by decide +kernel
theorem dX1_reducePart_0 : decode cX1_reducePart 0 = .ok (.aload_n 0, 1) := by decide +kernel
theorem dX1_reducePart_1 : decode cX1_reducePart 1 = .ok (.getfield 100, 3) := by decide +kernel
theorem dX1_reducePart_4 : decode cX1_reducePart 4 = .ok (.istore_n 2, 1) := by decide +kernel
theorem dX1_reducePart_5 : decode cX1_reducePart 5 = .ok (.aload_n 0, 1) := by decide +kernel
theorem dX1_reducePart_6 : decode cX1_reducePart 6 = .ok (.getfield 23, 3) := by decide +kernel
theorem dX1_reducePart_9 : decode cX1_reducePart 9 = .ok (.iload_n 1, 1) := by decide +kernel
theorem dX1_reducePart_10 : decode cX1_reducePart 10 = .ok (.baload, 1) := by decide +kernel
theorem dX1_reducePart_11 : decode cX1_reducePart 11 = .ok (.istore_n 3, 1) := by decide +kernel
theorem dX1_reducePart_12 : decode cX1_reducePart 12 = .ok (.iload_n 3, 1) := by decide +kernel
theorem dX1_reducePart_13 : decode cX1_reducePart 13 = .ok (.ifCond .lt 64, 3) := by decide +kernel
theorem dX1_reducePart_16 : decode cX1_reducePart 16 = .ok (.aload_n 0, 1) := by decide +kernel
theorem dX1_reducePart_17 : decode cX1_reducePart 17 = .ok (.iload_n 2, 1) := by decide +kernel
theorem dX1_reducePart_18 : decode cX1_reducePart 18 = .ok (.putfield 100, 3) := by decide +kernel
theorem dX1_reducePart_21 : decode cX1_reducePart 21 = .ok (.aload_n 0, 1) := by decide +kernel
theorem dX1_reducePart_22 : decode cX1_reducePart 22 = .ok (.iload_n 1, 1) := by decide +kernel
theorem dX1_reducePart_23 : decode cX1_reducePart 23 = .ok (.invokevirtual 132, 3) := by decide +kernel
theorem dX1_reducePart_26 : decode cX1_reducePart 26 = .ok (.aload_n 0, 1) := by decide +kernel
theorem dX1_reducePart_27 : decode cX1_reducePart 27 = .ok (.invokevirtual 135, 3) := by decide +kernel
theorem dX1_reducePart_30 : decode cX1_reducePart 30 = .ok (.istore 4, 2) := by decide +kernel
theorem dX1_reducePart_32 : decode cX1_reducePart 32 = .ok (.iconst 1, 1) := by decide +kernel
theorem dX1_reducePart_33 : decode cX1_reducePart 33 = .ok (.istore 5, 2) := by decide +kernel
theorem dX1_reducePart_35 : decode cX1_reducePart 35 = .ok (.iload 4, 2) := by decide +kernel
theorem dX1_reducePart_37 : decode cX1_reducePart 37 = .ok (.ifCond .lt 34, 3) := by decide +kernel
theorem dX1_reducePart_40 : decode cX1_reducePart 40 = .ok (.iload 5, 2) := by decide +kernel
theorem dX1_reducePart_42 : decode cX1_reducePart 42 = .ok (.ifCond .eq 29, 3) := by decide +kernel
theorem dX1_reducePart_45 : decode cX1_reducePart 45 = .ok (.aload_n 0, 1) := by decide +kernel
theorem dX1_reducePart_46 : decode cX1_reducePart 46 = .ok (.iload 4, 2) := by decide +kernel
theorem dX1_reducePart_48 : decode cX1_reducePart 48 = .ok (.invokevirtual 138, 3) := by decide +kernel
theorem dX1_reducePart_51 : decode cX1_reducePart 51 = .ok (.iload_n 3, 1) := by decide +kernel
theorem dX1_reducePart_52 : decode cX1_reducePart 52 = .ok (.ifCond .ne 7, 3) := by decide +kernel
theorem dX1_reducePart_55 : decode cX1_reducePart 55 = .ok (.iconst 1, 1) := by decide +kernel
theorem dX1_reducePart_56 : decode cX1_reducePart 56 = .ok (.goto 4, 3) := by decide +kernel
theorem dX1_reducePart_59 : decode cX1_reducePart 59 = .ok (.iconst 0, 1) := by decide +kernel
theorem dX1_reducePart_60 : decode cX1_reducePart 60 = .ok (.istore 5, 2) := by decide +kernel
theorem dX1_reducePart_62 : decode cX1_reducePart 62 = .ok (.aload_n 0, 1) := by decide +kernel
theorem dX1_reducePart_63 : decode cX1_reducePart 63 = .ok (.invokevirtual 135, 3) := by decide +kernel
theorem dX1_reducePart_66 : decode cX1_reducePart 66 = .ok (.istore 4, 2) := by decide +kernel
theorem dX1_reducePart_68 : decode cX1_reducePart 68 = .ok (.goto (-33), 3) := by decide +kernel
theorem dX1_reducePart_71 : decode cX1_reducePart 71 = .ok (.iinc 3 (-1), 3) := by decide +kernel
theorem dX1_reducePart_74 : decode cX1_reducePart 74 = .ok (.goto (-62), 3) := by decide +kernel
theorem dX1_reducePart_77 : decode cX1_reducePart 77 = .ok (.return_, 1) := by decide +kernel
theorem dX1_openSpills_0 : decode cX1_openSpills 0 = .ok (.iconst 0, 1) := by decide +kernel
theorem dX1_openSpills_1 : decode cX1_openSpills 1 = .ok (.istore_n 2, 1) := by decide +kernel
theorem dX1_openSpills_2 : decode cX1_openSpills 2 = .ok (.iload_n 2, 1) := by decide +kernel
theorem dX1_openSpills_3 : decode cX1_openSpills 3 = .ok (.aload_n 0, 1) := by decide +kernel
theorem dX1_openSpills_4 : decode cX1_openSpills 4 = .ok (.getfield 90, 3) := by decide +kernel
theorem dX1_openSpills_7 : decode cX1_openSpills 7 = .ok (.if_icmp .ge 43, 3) := by decide +kernel
theorem dX1_openSpills_10 : decode cX1_openSpills 10 = .ok (.aload_n 0, 1) := by decide +kernel
theorem dX1_openSpills_11 : decode cX1_openSpills 11 = .ok (.getfield 41, 3) := by decide +kernel
theorem dX1_openSpills_14 : decode cX1_openSpills 14 = .ok (.iload_n 2, 1) := by decide +kernel
theorem dX1_openSpills_15 : decode cX1_openSpills 15 = .ok (.aload_n 0, 1) := by decide +kernel
theorem dX1_openSpills_16 : decode cX1_openSpills 16 = .ok (.getfield 38, 3) := by decide +kernel
theorem dX1_openSpills_19 : decode cX1_openSpills 19 = .ok (.iconst 5, 1) := by decide +kernel
theorem dX1_openSpills_20 : decode cX1_openSpills 20 = .ok (.iload_n 2, 1) := by decide +kernel
theorem dX1_openSpills_21 : decode cX1_openSpills 21 = .ok (.imul, 1) := by decide +kernel
theorem dX1_openSpills_22 : decode cX1_openSpills 22 = .ok (.iload_n 1, 1) := by decide +kernel
theorem dX1_openSpills_23 : decode cX1_openSpills 23 = .ok (.iadd, 1) := by decide +kernel
theorem dX1_openSpills_24 : decode cX1_openSpills 24 = .ok (.baload, 1) := by decide +kernel
theorem dX1_openSpills_25 : decode cX1_openSpills 25 = .ok (.bastore, 1) := by decide +kernel
theorem dX1_openSpills_26 : decode cX1_openSpills 26 = .ok (.aload_n 0, 1) := by decide +kernel
theorem dX1_openSpills_27 : decode cX1_openSpills 27 = .ok (.getfield 44, 3) := by decide +kernel
theorem dX1_openSpills_30 : decode cX1_openSpills 30 = .ok (.iload_n 2, 1) := by decide +kernel
theorem dX1_openSpills_31 : decode cX1_openSpills 31 = .ok (.aload_n 0, 1) := by decide +kernel
theorem dX1_openSpills_32 : decode cX1_openSpills 32 = .ok (.getfield 38, 3) := by decide +kernel
theorem dX1_openSpills_35 : decode cX1_openSpills 35 = .ok (.iconst 5, 1) := by decide +kernel
theorem dX1_openSpills_36 : decode cX1_openSpills 36 = .ok (.iload_n 2, 1) := by decide +kernel
theorem dX1_openSpills_37 : decode cX1_openSpills 37 = .ok (.imul, 1) := by decide +kernel
theorem dX1_openSpills_38 : decode cX1_openSpills 38 = .ok (.iload_n 1, 1) := by decide +kernel
theorem dX1_openSpills_39 : decode cX1_openSpills 39 = .ok (.iadd, 1) := by decide +kernel
end
section
set_option maxRecDepth 100000
theorem dX1_openSpills_40 : decode cX1_openSpills 40 = .ok (.iconst 1, 1) := by decide +kernel
theorem dX1_openSpills_41 : decode cX1_openSpills 41 = .ok (.iadd, 1) := by decide +kernel
theorem dX1_openSpills_42 : decode cX1_openSpills 42 = .ok (.baload, 1) := by decide +kernel
theorem dX1_openSpills_43 : decode cX1_openSpills 43 = .ok (.bastore, 1) := by decide +kernel
theorem dX1_openSpills_44 : decode cX1_openSpills 44 = .ok (.iinc 2 1, 3) := by decide +kernel
theorem dX1_openSpills_47 : decode cX1_openSpills 47 = .ok (.goto (-45), 3) := by decide +kernel
theorem dX1_openSpills_50 : decode cX1_openSpills 50 = .ok (.return_, 1) := by decide +kernel
theorem dX1_leastHead_0 : decode cX1_leastHead 0 = .ok (.iconst (-1), 1) := by decide +kernel
theorem dX1_leastHead_1 : decode cX1_leastHead 1 = .ok (.istore_n 1, 1) := by decide +kernel
theorem dX1_leastHead_2 : decode cX1_leastHead 2 = .ok (.iconst 0, 1) := by decide +kernel
theorem dX1_leastHead_3 : decode cX1_leastHead 3 = .ok (.istore_n 2, 1) := by decide +kernel
theorem dX1_leastHead_4 : decode cX1_leastHead 4 = .ok (.iload_n 2, 1) := by decide +kernel
theorem dX1_leastHead_5 : decode cX1_leastHead 5 = .ok (.aload_n 0, 1) := by decide +kernel
theorem dX1_leastHead_6 : decode cX1_leastHead 6 = .ok (.getfield 90, 3) := by decide +kernel
theorem dX1_leastHead_9 : decode cX1_leastHead 9 = .ok (.if_icmp .ge 50, 3) := by decide +kernel
theorem dX1_leastHead_12 : decode cX1_leastHead 12 = .ok (.aload_n 0, 1) := by decide +kernel
theorem dX1_leastHead_13 : decode cX1_leastHead 13 = .ok (.getfield 41, 3) := by decide +kernel
theorem dX1_leastHead_16 : decode cX1_leastHead 16 = .ok (.iload_n 2, 1) := by decide +kernel
theorem dX1_leastHead_17 : decode cX1_leastHead 17 = .ok (.baload, 1) := by decide +kernel
theorem dX1_leastHead_18 : decode cX1_leastHead 18 = .ok (.aload_n 0, 1) := by decide +kernel
theorem dX1_leastHead_19 : decode cX1_leastHead 19 = .ok (.getfield 44, 3) := by decide +kernel
theorem dX1_leastHead_22 : decode cX1_leastHead 22 = .ok (.iload_n 2, 1) := by decide +kernel
theorem dX1_leastHead_23 : decode cX1_leastHead 23 = .ok (.baload, 1) := by decide +kernel
theorem dX1_leastHead_24 : decode cX1_leastHead 24 = .ok (.if_icmp .ne 6, 3) := by decide +kernel
theorem dX1_leastHead_27 : decode cX1_leastHead 27 = .ok (.goto 26, 3) := by decide +kernel
theorem dX1_leastHead_30 : decode cX1_leastHead 30 = .ok (.aload_n 0, 1) := by decide +kernel
theorem dX1_leastHead_31 : decode cX1_leastHead 31 = .ok (.getfield 32, 3) := by decide +kernel
theorem dX1_leastHead_34 : decode cX1_leastHead 34 = .ok (.aload_n 0, 1) := by decide +kernel
theorem dX1_leastHead_35 : decode cX1_leastHead 35 = .ok (.getfield 41, 3) := by decide +kernel
theorem dX1_leastHead_38 : decode cX1_leastHead 38 = .ok (.iload_n 2, 1) := by decide +kernel
theorem dX1_leastHead_39 : decode cX1_leastHead 39 = .ok (.baload, 1) := by decide +kernel
theorem dX1_leastHead_40 : decode cX1_leastHead 40 = .ok (.baload, 1) := by decide +kernel
theorem dX1_leastHead_41 : decode cX1_leastHead 41 = .ok (.istore_n 3, 1) := by decide +kernel
theorem dX1_leastHead_42 : decode cX1_leastHead 42 = .ok (.iload_n 1, 1) := by decide +kernel
theorem dX1_leastHead_43 : decode cX1_leastHead 43 = .ok (.ifCond .lt 8, 3) := by decide +kernel
theorem dX1_leastHead_46 : decode cX1_leastHead 46 = .ok (.iload_n 3, 1) := by decide +kernel
theorem dX1_leastHead_47 : decode cX1_leastHead 47 = .ok (.iload_n 1, 1) := by decide +kernel
theorem dX1_leastHead_48 : decode cX1_leastHead 48 = .ok (.if_icmp .ge 5, 3) := by decide +kernel
theorem dX1_leastHead_51 : decode cX1_leastHead 51 = .ok (.iload_n 3, 1) := by decide +kernel
theorem dX1_leastHead_52 : decode cX1_leastHead 52 = .ok (.istore_n 1, 1) := by decide +kernel
theorem dX1_leastHead_53 : decode cX1_leastHead 53 = .ok (.iinc 2 1, 3) := by decide +kernel
theorem dX1_leastHead_56 : decode cX1_leastHead 56 = .ok (.goto (-52), 3) := by decide +kernel
theorem dX1_leastHead_59 : decode cX1_leastHead 59 = .ok (.iload_n 1, 1) := by decide +kernel
theorem dX1_leastHead_60 : decode cX1_leastHead 60 = .ok (.ireturn, 1) := by decide +kernel
theorem dX1_reduceGroup_0 : decode cX1_reduceGroup 0 = .ok (.aload_n 0, 1) := by decide +kernel
theorem dX1_reduceGroup_1 : decode cX1_reduceGroup 1 = .ok (.getfield 80, 3) := by decide +kernel
theorem dX1_reduceGroup_4 : decode cX1_reduceGroup 4 = .ok (.iconst 4, 1) := by decide +kernel
theorem dX1_reduceGroup_5 : decode cX1_reduceGroup 5 = .ok (.if_icmp .ne 8, 3) := by decide +kernel
theorem dX1_reduceGroup_8 : decode cX1_reduceGroup 8 = .ok (.bipush 7, 2) := by decide +kernel
theorem dX1_reduceGroup_10 : decode cX1_reduceGroup 10 = .ok (.goto 4, 3) := by decide +kernel
theorem dX1_reduceGroup_13 : decode cX1_reduceGroup 13 = .ok (.iconst 0, 1) := by decide +kernel
theorem dX1_reduceGroup_14 : decode cX1_reduceGroup 14 = .ok (.istore_n 2, 1) := by decide +kernel
theorem dX1_reduceGroup_15 : decode cX1_reduceGroup 15 = .ok (.iconst 0, 1) := by decide +kernel
theorem dX1_reduceGroup_16 : decode cX1_reduceGroup 16 = .ok (.istore_n 3, 1) := by decide +kernel
theorem dX1_reduceGroup_17 : decode cX1_reduceGroup 17 = .ok (.iconst 0, 1) := by decide +kernel
theorem dX1_reduceGroup_18 : decode cX1_reduceGroup 18 = .ok (.istore 4, 2) := by decide +kernel
theorem dX1_reduceGroup_20 : decode cX1_reduceGroup 20 = .ok (.iload 4, 2) := by decide +kernel
theorem dX1_reduceGroup_22 : decode cX1_reduceGroup 22 = .ok (.aload_n 0, 1) := by decide +kernel
theorem dX1_reduceGroup_23 : decode cX1_reduceGroup 23 = .ok (.getfield 90, 3) := by decide +kernel
theorem dX1_reduceGroup_26 : decode cX1_reduceGroup 26 = .ok (.if_icmp .ge 109, 3) := by decide +kernel
theorem dX1_reduceGroup_29 : decode cX1_reduceGroup 29 = .ok (.aload_n 0, 1) := by decide +kernel
theorem dX1_reduceGroup_30 : decode cX1_reduceGroup 30 = .ok (.getfield 41, 3) := by decide +kernel
theorem dX1_reduceGroup_33 : decode cX1_reduceGroup 33 = .ok (.iload 4, 2) := by decide +kernel
theorem dX1_reduceGroup_35 : decode cX1_reduceGroup 35 = .ok (.baload, 1) := by decide +kernel
theorem dX1_reduceGroup_36 : decode cX1_reduceGroup 36 = .ok (.aload_n 0, 1) := by decide +kernel
theorem dX1_reduceGroup_37 : decode cX1_reduceGroup 37 = .ok (.getfield 44, 3) := by decide +kernel
theorem dX1_reduceGroup_40 : decode cX1_reduceGroup 40 = .ok (.iload 4, 2) := by decide +kernel
theorem dX1_reduceGroup_42 : decode cX1_reduceGroup 42 = .ok (.baload, 1) := by decide +kernel
theorem dX1_reduceGroup_43 : decode cX1_reduceGroup 43 = .ok (.if_icmp .ge 86, 3) := by decide +kernel
theorem dX1_reduceGroup_46 : decode cX1_reduceGroup 46 = .ok (.aload_n 0, 1) := by decide +kernel
theorem dX1_reduceGroup_47 : decode cX1_reduceGroup 47 = .ok (.getfield 32, 3) := by decide +kernel
theorem dX1_reduceGroup_50 : decode cX1_reduceGroup 50 = .ok (.aload_n 0, 1) := by decide +kernel
theorem dX1_reduceGroup_51 : decode cX1_reduceGroup 51 = .ok (.getfield 41, 3) := by decide +kernel
theorem dX1_reduceGroup_54 : decode cX1_reduceGroup 54 = .ok (.iload 4, 2) := by decide +kernel
theorem dX1_reduceGroup_56 : decode cX1_reduceGroup 56 = .ok (.baload, 1) := by decide +kernel
theorem dX1_reduceGroup_57 : decode cX1_reduceGroup 57 = .ok (.baload, 1) := by decide +kernel
theorem dX1_reduceGroup_58 : decode cX1_reduceGroup 58 = .ok (.iload_n 1, 1) := by decide +kernel
theorem dX1_reduceGroup_59 : decode cX1_reduceGroup 59 = .ok (.if_icmp .ne 70, 3) := by decide +kernel
theorem dX1_reduceGroup_62 : decode cX1_reduceGroup 62 = .ok (.aload_n 0, 1) := by decide +kernel
theorem dX1_reduceGroup_63 : decode cX1_reduceGroup 63 = .ok (.getfield 35, 3) := by decide +kernel
theorem dX1_reduceGroup_66 : decode cX1_reduceGroup 66 = .ok (.aload_n 0, 1) := by decide +kernel
theorem dX1_reduceGroup_67 : decode cX1_reduceGroup 67 = .ok (.getfield 41, 3) := by decide +kernel
theorem dX1_reduceGroup_70 : decode cX1_reduceGroup 70 = .ok (.iload 4, 2) := by decide +kernel
theorem dX1_reduceGroup_72 : decode cX1_reduceGroup 72 = .ok (.baload, 1) := by decide +kernel
theorem dX1_reduceGroup_73 : decode cX1_reduceGroup 73 = .ok (.iaload, 1) := by decide +kernel
theorem dX1_reduceGroup_74 : decode cX1_reduceGroup 74 = .ok (.istore 5, 2) := by decide +kernel
theorem dX1_reduceGroup_76 : decode cX1_reduceGroup 76 = .ok (.aload_n 0, 1) := by decide +kernel
theorem dX1_reduceGroup_77 : decode cX1_reduceGroup 77 = .ok (.getfield 80, 3) := by decide +kernel
theorem dX1_reduceGroup_80 : decode cX1_reduceGroup 80 = .ok (.iconst 4, 1) := by decide +kernel
theorem dX1_reduceGroup_81 : decode cX1_reduceGroup 81 = .ok (.if_icmp .ne 14, 3) := by decide +kernel
theorem dX1_reduceGroup_84 : decode cX1_reduceGroup 84 = .ok (.bipush 31, 2) := by decide +kernel
theorem dX1_reduceGroup_86 : decode cX1_reduceGroup 86 = .ok (.iload_n 2, 1) := by decide +kernel
theorem dX1_reduceGroup_87 : decode cX1_reduceGroup 87 = .ok (.imul, 1) := by decide +kernel
theorem dX1_reduceGroup_88 : decode cX1_reduceGroup 88 = .ok (.iload 5, 2) := by decide +kernel
theorem dX1_reduceGroup_90 : decode cX1_reduceGroup 90 = .ok (.iadd, 1) := by decide +kernel
theorem dX1_reduceGroup_91 : decode cX1_reduceGroup 91 = .ok (.istore_n 2, 1) := by decide +kernel
theorem dX1_reduceGroup_92 : decode cX1_reduceGroup 92 = .ok (.goto 20, 3) := by decide +kernel
theorem dX1_reduceGroup_95 : decode cX1_reduceGroup 95 = .ok (.iload_n 3, 1) := by decide +kernel
theorem dX1_reduceGroup_96 : decode cX1_reduceGroup 96 = .ok (.ifCond .eq 13, 3) := by decide +kernel
theorem dX1_reduceGroup_99 : decode cX1_reduceGroup 99 = .ok (.aload_n 0, 1) := by decide +kernel
theorem dX1_reduceGroup_100 : decode cX1_reduceGroup 100 = .ok (.iload_n 2, 1) := by decide +kernel
theorem dX1_reduceGroup_101 : decode cX1_reduceGroup 101 = .ok (.iload 5, 2) := by decide +kernel
theorem dX1_reduceGroup_103 : decode cX1_reduceGroup 103 = .ok (.invokevirtual 128, 3) := by decide +kernel
theorem dX1_reduceGroup_106 : decode cX1_reduceGroup 106 = .ok (.goto 5, 3) := by decide +kernel
theorem dX1_reduceGroup_109 : decode cX1_reduceGroup 109 = .ok (.iload 5, 2) := by decide +kernel
theorem dX1_reduceGroup_111 : decode cX1_reduceGroup 111 = .ok (.istore_n 2, 1) := by decide +kernel
theorem dX1_reduceGroup_112 : decode cX1_reduceGroup 112 = .ok (.iconst 1, 1) := by decide +kernel
theorem dX1_reduceGroup_113 : decode cX1_reduceGroup 113 = .ok (.istore_n 3, 1) := by decide +kernel
theorem dX1_reduceGroup_114 : decode cX1_reduceGroup 114 = .ok (.aload_n 0, 1) := by decide +kernel
theorem dX1_reduceGroup_115 : decode cX1_reduceGroup 115 = .ok (.getfield 41, 3) := by decide +kernel
theorem dX1_reduceGroup_118 : decode cX1_reduceGroup 118 = .ok (.iload 4, 2) := by decide +kernel
theorem dX1_reduceGroup_120 : decode cX1_reduceGroup 120 = .ok (.dup2, 1) := by decide +kernel
theorem dX1_reduceGroup_121 : decode cX1_reduceGroup 121 = .ok (.baload, 1) := by decide +kernel
theorem dX1_reduceGroup_122 : decode cX1_reduceGroup 122 = .ok (.iconst 1, 1) := by decide +kernel
theorem dX1_reduceGroup_123 : decode cX1_reduceGroup 123 = .ok (.iadd, 1) := by decide +kernel
theorem dX1_reduceGroup_124 : decode cX1_reduceGroup 124 = .ok (.i2b, 1) := by decide +kernel
theorem dX1_reduceGroup_125 : decode cX1_reduceGroup 125 = .ok (.bastore, 1) := by decide +kernel
theorem dX1_reduceGroup_126 : decode cX1_reduceGroup 126 = .ok (.goto (-97), 3) := by decide +kernel
theorem dX1_reduceGroup_129 : decode cX1_reduceGroup 129 = .ok (.iinc 4 1, 3) := by decide +kernel
theorem dX1_reduceGroup_132 : decode cX1_reduceGroup 132 = .ok (.goto (-112), 3) := by decide +kernel
theorem dX1_reduceGroup_135 : decode cX1_reduceGroup 135 = .ok (.aload_n 0, 1) := by decide +kernel
theorem dX1_reduceGroup_136 : decode cX1_reduceGroup 136 = .ok (.getfield 50, 3) := by decide +kernel
theorem dX1_reduceGroup_139 : decode cX1_reduceGroup 139 = .ok (.aload_n 0, 1) := by decide +kernel
theorem dX1_reduceGroup_140 : decode cX1_reduceGroup 140 = .ok (.getfield 100, 3) := by decide +kernel
theorem dX1_reduceGroup_143 : decode cX1_reduceGroup 143 = .ok (.iload_n 1, 1) := by decide +kernel
theorem dX1_reduceGroup_144 : decode cX1_reduceGroup 144 = .ok (.i2b, 1) := by decide +kernel
theorem dX1_reduceGroup_145 : decode cX1_reduceGroup 145 = .ok (.bastore, 1) := by decide +kernel
theorem dX1_reduceGroup_146 : decode cX1_reduceGroup 146 = .ok (.aload_n 0, 1) := by decide +kernel
theorem dX1_reduceGroup_147 : decode cX1_reduceGroup 147 = .ok (.getfield 53, 3) := by decide +kernel
theorem dX1_reduceGroup_150 : decode cX1_reduceGroup 150 = .ok (.aload_n 0, 1) := by decide +kernel
theorem dX1_reduceGroup_151 : decode cX1_reduceGroup 151 = .ok (.getfield 100, 3) := by decide +kernel
theorem dX1_reduceGroup_154 : decode cX1_reduceGroup 154 = .ok (.iload_n 2, 1) := by decide +kernel
theorem dX1_reduceGroup_155 : decode cX1_reduceGroup 155 = .ok (.iastore, 1) := by decide +kernel
theorem dX1_reduceGroup_156 : decode cX1_reduceGroup 156 = .ok (.aload_n 0, 1) := by decide +kernel
theorem dX1_reduceGroup_157 : decode cX1_reduceGroup 157 = .ok (.dup, 1) := by decide +kernel
theorem dX1_reduceGroup_158 : decode cX1_reduceGroup 158 = .ok (.getfield 100, 3) := by decide +kernel
theorem dX1_reduceGroup_161 : decode cX1_reduceGroup 161 = .ok (.iconst 1, 1) := by decide +kernel
theorem dX1_reduceGroup_162 : decode cX1_reduceGroup 162 = .ok (.iadd, 1) := by decide +kernel
theorem dX1_reduceGroup_163 : decode cX1_reduceGroup 163 = .ok (.putfield 100, 3) := by decide +kernel
theorem dX1_reduceGroup_166 : decode cX1_reduceGroup 166 = .ok (.return_, 1) := by decide +kernel
theorem dX1_results_0 : decode cX1_results 0 = .ok (.iload_n 1, 1) := by decide +kernel
theorem dX1_results_1 : decode cX1_results 1 = .ok (.ifCond .lt 11, 3) := by decide +kernel
theorem dX1_results_4 : decode cX1_results 4 = .ok (.iload_n 1, 1) := by decide +kernel
theorem dX1_results_5 : decode cX1_results 5 = .ok (.aload_n 0, 1) := by decide +kernel
theorem dX1_results_6 : decode cX1_results 6 = .ok (.getfield 56, 3) := by decide +kernel
theorem dX1_results_9 : decode cX1_results 9 = .ok (.if_icmp .lt 5, 3) := by decide +kernel
theorem dX1_results_12 : decode cX1_results 12 = .ok (.iconst (-1), 1) := by decide +kernel
theorem dX1_results_13 : decode cX1_results 13 = .ok (.ireturn, 1) := by decide +kernel
theorem dX1_results_14 : decode cX1_results 14 = .ok (.aload_n 0, 1) := by decide +kernel
theorem dX1_results_15 : decode cX1_results 15 = .ok (.getfield 47, 3) := by decide +kernel
theorem dX1_results_18 : decode cX1_results 18 = .ok (.iload_n 1, 1) := by decide +kernel
theorem dX1_results_19 : decode cX1_results 19 = .ok (.iconst 1, 1) := by decide +kernel
theorem dX1_results_20 : decode cX1_results 20 = .ok (.iadd, 1) := by decide +kernel
theorem dX1_results_21 : decode cX1_results 21 = .ok (.baload, 1) := by decide +kernel
theorem dX1_results_22 : decode cX1_results 22 = .ok (.aload_n 0, 1) := by decide +kernel
theorem dX1_results_23 : decode cX1_results 23 = .ok (.getfield 47, 3) := by decide +kernel
theorem dX1_results_26 : decode cX1_results 26 = .ok (.iload_n 1, 1) := by decide +kernel
theorem dX1_results_27 : decode cX1_results 27 = .ok (.baload, 1) := by decide +kernel
theorem dX1_results_28 : decode cX1_results 28 = .ok (.isub, 1) := by decide +kernel
theorem dX1_results_29 : decode cX1_results 29 = .ok (.ireturn, 1) := by decide +kernel
theorem dX1_keyAt_0 : decode cX1_keyAt 0 = .ok (.aload_n 0, 1) := by decide +kernel
theorem dX1_keyAt_1 : decode cX1_keyAt 1 = .ok (.iload_n 1, 1) := by decide +kernel
theorem dX1_keyAt_2 : decode cX1_keyAt 2 = .ok (.iload_n 2, 1) := by decide +kernel
theorem dX1_keyAt_3 : decode cX1_keyAt 3 = .ok (.invokevirtual 106, 3) := by decide +kernel
theorem dX1_keyAt_6 : decode cX1_keyAt 6 = .ok (.ifCond .ne 5, 3) := by decide +kernel
theorem dX1_keyAt_9 : decode cX1_keyAt 9 = .ok (.iconst (-1), 1) := by decide +kernel
theorem dX1_keyAt_10 : decode cX1_keyAt 10 = .ok (.ireturn, 1) := by decide +kernel
theorem dX1_keyAt_11 : decode cX1_keyAt 11 = .ok (.aload_n 0, 1) := by decide +kernel
theorem dX1_keyAt_12 : decode cX1_keyAt 12 = .ok (.getfield 50, 3) := by decide +kernel
theorem dX1_keyAt_15 : decode cX1_keyAt 15 = .ok (.aload_n 0, 1) := by decide +kernel
theorem dX1_keyAt_16 : decode cX1_keyAt 16 = .ok (.getfield 47, 3) := by decide +kernel
theorem dX1_keyAt_19 : decode cX1_keyAt 19 = .ok (.iload_n 1, 1) := by decide +kernel
theorem dX1_keyAt_20 : decode cX1_keyAt 20 = .ok (.baload, 1) := by decide +kernel
theorem dX1_keyAt_21 : decode cX1_keyAt 21 = .ok (.iload_n 2, 1) := by decide +kernel
theorem dX1_keyAt_22 : decode cX1_keyAt 22 = .ok (.iadd, 1) := by decide +kernel
theorem dX1_keyAt_23 : decode cX1_keyAt 23 = .ok (.baload, 1) := by decide +kernel
theorem dX1_keyAt_24 : decode cX1_keyAt 24 = .ok (.ireturn, 1) := by decide +kernel
theorem dX1_isResult_0 : decode cX1_isResult 0 = .ok (.iload_n 1, 1) := by decide +kernel
theorem dX1_isResult_1 : decode cX1_isResult 1 = .ok (.ifCond .lt 15, 3) := by decide +kernel
theorem dX1_isResult_4 : decode cX1_isResult 4 = .ok (.iload_n 1, 1) := by decide +kernel
theorem dX1_isResult_5 : decode cX1_isResult 5 = .ok (.aload_n 0, 1) := by decide +kernel
theorem dX1_isResult_6 : decode cX1_isResult 6 = .ok (.getfield 56, 3) := by decide +kernel
theorem dX1_isResult_9 : decode cX1_isResult 9 = .ok (.if_icmp .ge 7, 3) := by decide +kernel
theorem dX1_isResult_12 : decode cX1_isResult 12 = .ok (.iload_n 2, 1) := by decide +kernel
theorem dX1_isResult_13 : decode cX1_isResult 13 = .ok (.ifCond .ge 5, 3) := by decide +kernel
theorem dX1_isResult_16 : decode cX1_isResult 16 = .ok (.iconst 0, 1) := by decide +kernel
theorem dX1_isResult_17 : decode cX1_isResult 17 = .ok (.ireturn, 1) := by decide +kernel
theorem dX1_isResult_18 : decode cX1_isResult 18 = .ok (.iload_n 2, 1) := by decide +kernel
theorem dX1_isResult_19 : decode cX1_isResult 19 = .ok (.aload_n 0, 1) := by decide +kernel
theorem dX1_isResult_20 : decode cX1_isResult 20 = .ok (.getfield 47, 3) := by decide +kernel
theorem dX1_isResult_23 : decode cX1_isResult 23 = .ok (.iload_n 1, 1) := by decide +kernel
theorem dX1_isResult_24 : decode cX1_isResult 24 = .ok (.iconst 1, 1) := by decide +kernel
theorem dX1_isResult_25 : decode cX1_isResult 25 = .ok (.iadd, 1) := by decide +kernel
theorem dX1_isResult_26 : decode cX1_isResult 26 = .ok (.baload, 1) := by decide +kernel
theorem dX1_isResult_27 : decode cX1_isResult 27 = .ok (.aload_n 0, 1) := by decide +kernel
theorem dX1_isResult_28 : decode cX1_isResult 28 = .ok (.getfield 47, 3) := by decide +kernel
theorem dX1_isResult_31 : decode cX1_isResult 31 = .ok (.iload_n 1, 1) := by decide +kernel
theorem dX1_isResult_32 : decode cX1_isResult 32 = .ok (.baload, 1) := by decide +kernel
theorem dX1_isResult_33 : decode cX1_isResult 33 = .ok (.isub, 1) := by decide +kernel
theorem dX1_isResult_34 : decode cX1_isResult 34 = .ok (.if_icmp .ge 7, 3) := by decide +kernel
theorem dX1_isResult_37 : decode cX1_isResult 37 = .ok (.iconst 1, 1) := by decide +kernel
theorem dX1_isResult_38 : decode cX1_isResult 38 = .ok (.goto 4, 3) := by decide +kernel
theorem dX1_isResult_41 : decode cX1_isResult 41 = .ok (.iconst 0, 1) := by decide +kernel
theorem dX1_isResult_42 : decode cX1_isResult 42 = .ok (.ireturn, 1) := by decide +kernel
theorem dX1_valueAt_0 : decode cX1_valueAt 0 = .ok (.aload_n 0, 1) := by decide +kernel
theorem dX1_valueAt_1 : decode cX1_valueAt 1 = .ok (.iload_n 1, 1) := by decide +kernel
theorem dX1_valueAt_2 : decode cX1_valueAt 2 = .ok (.iload_n 2, 1) := by decide +kernel
theorem dX1_valueAt_3 : decode cX1_valueAt 3 = .ok (.invokevirtual 106, 3) := by decide +kernel
theorem dX1_valueAt_6 : decode cX1_valueAt 6 = .ok (.ifCond .ne 5, 3) := by decide +kernel
theorem dX1_valueAt_9 : decode cX1_valueAt 9 = .ok (.iconst 0, 1) := by decide +kernel
theorem dX1_valueAt_10 : decode cX1_valueAt 10 = .ok (.ireturn, 1) := by decide +kernel
theorem dX1_valueAt_11 : decode cX1_valueAt 11 = .ok (.aload_n 0, 1) := by decide +kernel
theorem dX1_valueAt_12 : decode cX1_valueAt 12 = .ok (.getfield 53, 3) := by decide +kernel
theorem dX1_valueAt_15 : decode cX1_valueAt 15 = .ok (.aload_n 0, 1) := by decide +kernel
theorem dX1_valueAt_16 : decode cX1_valueAt 16 = .ok (.getfield 47, 3) := by decide +kernel
theorem dX1_valueAt_19 : decode cX1_valueAt 19 = .ok (.iload_n 1, 1) := by decide +kernel
theorem dX1_valueAt_20 : decode cX1_valueAt 20 = .ok (.baload, 1) := by decide +kernel
theorem dX1_valueAt_21 : decode cX1_valueAt 21 = .ok (.iload_n 2, 1) := by decide +kernel
theorem dX1_valueAt_22 : decode cX1_valueAt 22 = .ok (.iadd, 1) := by decide +kernel
theorem dX1_valueAt_23 : decode cX1_valueAt 23 = .ok (.iaload, 1) := by decide +kernel
theorem dX1_valueAt_24 : decode cX1_valueAt 24 = .ok (.ireturn, 1) := by decide +kernel
theorem dX1_mapped_0 : decode cX1_mapped 0 = .ok (.aload_n 0, 1) := by decide +kernel
theorem dX1_mapped_1 : decode cX1_mapped 1 = .ok (.getfield 87, 3) := by decide +kernel
theorem dX1_mapped_4 : decode cX1_mapped 4 = .ok (.ireturn, 1) := by decide +kernel
theorem dX1_feedBack_0 : decode cX1_feedBack 0 = .ok (.iconst 0, 1) := by decide +kernel
theorem dX1_feedBack_1 : decode cX1_feedBack 1 = .ok (.istore_n 1, 1) := by decide +kernel
theorem dX1_feedBack_2 : decode cX1_feedBack 2 = .ok (.iload_n 1, 1) := by decide +kernel
theorem dX1_feedBack_3 : decode cX1_feedBack 3 = .ok (.iconst 4, 1) := by decide +kernel
theorem dX1_feedBack_4 : decode cX1_feedBack 4 = .ok (.if_icmp .ge 92, 3) := by decide +kernel
theorem dX1_feedBack_7 : decode cX1_feedBack 7 = .ok (.aload_n 0, 1) := by decide +kernel
theorem dX1_feedBack_8 : decode cX1_feedBack 8 = .ok (.getfield 47, 3) := by decide +kernel
theorem dX1_feedBack_11 : decode cX1_feedBack 11 = .ok (.iload_n 1, 1) := by decide +kernel
theorem dX1_feedBack_12 : decode cX1_feedBack 12 = .ok (.baload, 1) := by decide +kernel
theorem dX1_feedBack_13 : decode cX1_feedBack 13 = .ok (.istore_n 2, 1) := by decide +kernel
theorem dX1_feedBack_14 : decode cX1_feedBack 14 = .ok (.aload_n 0, 1) := by decide +kernel
theorem dX1_feedBack_15 : decode cX1_feedBack 15 = .ok (.getfield 47, 3) := by decide +kernel
theorem dX1_feedBack_18 : decode cX1_feedBack 18 = .ok (.iload_n 1, 1) := by decide +kernel
theorem dX1_feedBack_19 : decode cX1_feedBack 19 = .ok (.iconst 1, 1) := by decide +kernel
theorem dX1_feedBack_20 : decode cX1_feedBack 20 = .ok (.iadd, 1) := by decide +kernel
theorem dX1_feedBack_21 : decode cX1_feedBack 21 = .ok (.baload, 1) := by decide +kernel
theorem dX1_feedBack_22 : decode cX1_feedBack 22 = .ok (.iload_n 2, 1) := by decide +kernel
theorem dX1_feedBack_23 : decode cX1_feedBack 23 = .ok (.isub, 1) := by decide +kernel
theorem dX1_feedBack_24 : decode cX1_feedBack 24 = .ok (.istore_n 3, 1) := by decide +kernel
theorem dX1_feedBack_25 : decode cX1_feedBack 25 = .ok (.aload_n 0, 1) := by decide +kernel
theorem dX1_feedBack_26 : decode cX1_feedBack 26 = .ok (.getfield 7, 3) := by decide +kernel
theorem dX1_feedBack_29 : decode cX1_feedBack 29 = .ok (.iload_n 1, 1) := by decide +kernel
theorem dX1_feedBack_30 : decode cX1_feedBack 30 = .ok (.iload_n 3, 1) := by decide +kernel
theorem dX1_feedBack_31 : decode cX1_feedBack 31 = .ok (.i2b, 1) := by decide +kernel
theorem dX1_feedBack_32 : decode cX1_feedBack 32 = .ok (.bastore, 1) := by decide +kernel
theorem dX1_feedBack_33 : decode cX1_feedBack 33 = .ok (.iconst 0, 1) := by decide +kernel
theorem dX1_feedBack_34 : decode cX1_feedBack 34 = .ok (.istore 4, 2) := by decide +kernel
theorem dX1_feedBack_36 : decode cX1_feedBack 36 = .ok (.iload 4, 2) := by decide +kernel
theorem dX1_feedBack_38 : decode cX1_feedBack 38 = .ok (.iload_n 3, 1) := by decide +kernel
theorem dX1_feedBack_39 : decode cX1_feedBack 39 = .ok (.if_icmp .ge 51, 3) := by decide +kernel
theorem dX1_feedBack_42 : decode cX1_feedBack 42 = .ok (.aload_n 0, 1) := by decide +kernel
theorem dX1_feedBack_43 : decode cX1_feedBack 43 = .ok (.getfield 13, 3) := by decide +kernel
theorem dX1_feedBack_46 : decode cX1_feedBack 46 = .ok (.bipush 16, 2) := by decide +kernel
theorem dX1_feedBack_48 : decode cX1_feedBack 48 = .ok (.iload_n 1, 1) := by decide +kernel
theorem dX1_feedBack_49 : decode cX1_feedBack 49 = .ok (.imul, 1) := by decide +kernel
theorem dX1_feedBack_50 : decode cX1_feedBack 50 = .ok (.iload 4, 2) := by decide +kernel
theorem dX1_feedBack_52 : decode cX1_feedBack 52 = .ok (.iadd, 1) := by decide +kernel
theorem dX1_feedBack_53 : decode cX1_feedBack 53 = .ok (.aload_n 0, 1) := by decide +kernel
theorem dX1_feedBack_54 : decode cX1_feedBack 54 = .ok (.getfield 50, 3) := by decide +kernel
theorem dX1_feedBack_57 : decode cX1_feedBack 57 = .ok (.iload_n 2, 1) := by decide +kernel
theorem dX1_feedBack_58 : decode cX1_feedBack 58 = .ok (.iload 4, 2) := by decide +kernel
theorem dX1_feedBack_60 : decode cX1_feedBack 60 = .ok (.iadd, 1) := by decide +kernel
theorem dX1_feedBack_61 : decode cX1_feedBack 61 = .ok (.baload, 1) := by decide +kernel
theorem dX1_feedBack_62 : decode cX1_feedBack 62 = .ok (.iastore, 1) := by decide +kernel
theorem dX1_feedBack_63 : decode cX1_feedBack 63 = .ok (.aload_n 0, 1) := by decide +kernel
theorem dX1_feedBack_64 : decode cX1_feedBack 64 = .ok (.getfield 17, 3) := by decide +kernel
theorem dX1_feedBack_67 : decode cX1_feedBack 67 = .ok (.bipush 16, 2) := by decide +kernel
theorem dX1_feedBack_69 : decode cX1_feedBack 69 = .ok (.iload_n 1, 1) := by decide +kernel
theorem dX1_feedBack_70 : decode cX1_feedBack 70 = .ok (.imul, 1) := by decide +kernel
theorem dX1_feedBack_71 : decode cX1_feedBack 71 = .ok (.iload 4, 2) := by decide +kernel
theorem dX1_feedBack_73 : decode cX1_feedBack 73 = .ok (.iadd, 1) := by decide +kernel
theorem dX1_feedBack_74 : decode cX1_feedBack 74 = .ok (.aload_n 0, 1) := by decide +kernel
theorem dX1_feedBack_75 : decode cX1_feedBack 75 = .ok (.getfield 53, 3) := by decide +kernel
theorem dX1_feedBack_78 : decode cX1_feedBack 78 = .ok (.iload_n 2, 1) := by decide +kernel
theorem dX1_feedBack_79 : decode cX1_feedBack 79 = .ok (.iload 4, 2) := by decide +kernel
theorem dX1_feedBack_81 : decode cX1_feedBack 81 = .ok (.iadd, 1) := by decide +kernel
theorem dX1_feedBack_82 : decode cX1_feedBack 82 = .ok (.iaload, 1) := by decide +kernel
theorem dX1_feedBack_83 : decode cX1_feedBack 83 = .ok (.iastore, 1) := by decide +kernel
theorem dX1_feedBack_84 : decode cX1_feedBack 84 = .ok (.iinc 4 1, 3) := by decide +kernel
theorem dX1_feedBack_87 : decode cX1_feedBack 87 = .ok (.goto (-51), 3) := by decide +kernel
theorem dX1_feedBack_90 : decode cX1_feedBack 90 = .ok (.iinc 1 1, 3) := by decide +kernel
theorem dX1_feedBack_93 : decode cX1_feedBack 93 = .ok (.goto (-91), 3) := by decide +kernel
theorem dX1_feedBack_96 : decode cX1_feedBack 96 = .ok (.aload_n 0, 1) := by decide +kernel
theorem dX1_feedBack_97 : decode cX1_feedBack 97 = .ok (.getfield 100, 3) := by decide +kernel
theorem dX1_feedBack_100 : decode cX1_feedBack 100 = .ok (.ireturn, 1) := by decide +kernel
theorem dX1_emptySplit_0 : decode cX1_emptySplit 0 = .ok (.iload_n 1, 1) := by decide +kernel
theorem dX1_emptySplit_1 : decode cX1_emptySplit 1 = .ok (.ifCond .lt 8, 3) := by decide +kernel
theorem dX1_emptySplit_4 : decode cX1_emptySplit 4 = .ok (.iload_n 1, 1) := by decide +kernel
theorem dX1_emptySplit_5 : decode cX1_emptySplit 5 = .ok (.iconst 3, 1) := by decide +kernel
theorem dX1_emptySplit_6 : decode cX1_emptySplit 6 = .ok (.if_icmp .le 5, 3) := by decide +kernel
theorem dX1_emptySplit_9 : decode cX1_emptySplit 9 = .ok (.iconst (-1), 1) := by decide +kernel
theorem dX1_emptySplit_10 : decode cX1_emptySplit 10 = .ok (.ireturn, 1) := by decide +kernel
theorem dX1_emptySplit_11 : decode cX1_emptySplit 11 = .ok (.aload_n 0, 1) := by decide +kernel
theorem dX1_emptySplit_12 : decode cX1_emptySplit 12 = .ok (.getfield 7, 3) := by decide +kernel
theorem dX1_emptySplit_15 : decode cX1_emptySplit 15 = .ok (.iload_n 1, 1) := by decide +kernel
theorem dX1_emptySplit_16 : decode cX1_emptySplit 16 = .ok (.baload, 1) := by decide +kernel
theorem dX1_emptySplit_17 : decode cX1_emptySplit 17 = .ok (.istore_n 2, 1) := by decide +kernel
theorem dX1_emptySplit_18 : decode cX1_emptySplit 18 = .ok (.aload_n 0, 1) := by decide +kernel
theorem dX1_emptySplit_19 : decode cX1_emptySplit 19 = .ok (.getfield 7, 3) := by decide +kernel
theorem dX1_emptySplit_22 : decode cX1_emptySplit 22 = .ok (.iload_n 1, 1) := by decide +kernel
theorem dX1_emptySplit_23 : decode cX1_emptySplit 23 = .ok (.iconst 0, 1) := by decide +kernel
theorem dX1_emptySplit_24 : decode cX1_emptySplit 24 = .ok (.bastore, 1) := by decide +kernel
theorem dX1_emptySplit_25 : decode cX1_emptySplit 25 = .ok (.iload_n 2, 1) := by decide +kernel
theorem dX1_emptySplit_26 : decode cX1_emptySplit 26 = .ok (.ireturn, 1) := by decide +kernel
theorem dJ0_init_0 : decode cJ0_init 0 = .ok (.return_, 1) := by decide +kernel
end
section
set_option maxRecDepth 100000
theorem dX2_init_0 : decode cX2_init 0 = .ok (.aload_n 0, 1) := by decide +kernel
theorem dX2_init_1 : decode cX2_init 1 = .ok (.invokespecial 1, 3) := by decide +kernel
theorem dX2_init_4 : decode cX2_init 4 = .ok (.aload_n 0, 1) := by decide +kernel
theorem dX2_init_5 : decode cX2_init 5 = .ok (.iconst 4, 1) := by decide +kernel
theorem dX2_init_6 : decode cX2_init 6 = .ok (.newarray .int, 2) := by decide +kernel
theorem dX2_init_8 : decode cX2_init 8 = .ok (.putfield 7, 3) := by decide +kernel
theorem dX2_init_11 : decode cX2_init 11 = .ok (.aload_n 0, 1) := by decide +kernel
theorem dX2_init_12 : decode cX2_init 12 = .ok (.bipush 64, 2) := by decide +kernel
theorem dX2_init_14 : decode cX2_init 14 = .ok (.newarray .int, 2) := by decide +kernel
theorem dX2_init_16 : decode cX2_init 16 = .ok (.putfield 13, 3) := by decide +kernel
theorem dX2_init_19 : decode cX2_init 19 = .ok (.aload_n 0, 1) := by decide +kernel
theorem dX2_init_20 : decode cX2_init 20 = .ok (.bipush 64, 2) := by decide +kernel
theorem dX2_init_22 : decode cX2_init 22 = .ok (.newarray .int, 2) := by decide +kernel
theorem dX2_init_24 : decode cX2_init 24 = .ok (.putfield 16, 3) := by decide +kernel
theorem dX2_init_27 : decode cX2_init 27 = .ok (.aload_n 0, 1) := by decide +kernel
theorem dX2_init_28 : decode cX2_init 28 = .ok (.bipush 16, 2) := by decide +kernel
theorem dX2_init_30 : decode cX2_init 30 = .ok (.putfield 19, 3) := by decide +kernel
theorem dX2_init_33 : decode cX2_init 33 = .ok (.aload_n 0, 1) := by decide +kernel
theorem dX2_init_34 : decode cX2_init 34 = .ok (.iconst 1, 1) := by decide +kernel
theorem dX2_init_35 : decode cX2_init 35 = .ok (.putfield 23, 3) := by decide +kernel
theorem dX2_init_38 : decode cX2_init 38 = .ok (.aload_n 0, 1) := by decide +kernel
theorem dX2_init_39 : decode cX2_init 39 = .ok (.iconst 0, 1) := by decide +kernel
theorem dX2_init_40 : decode cX2_init 40 = .ok (.putfield 26, 3) := by decide +kernel
theorem dX2_init_43 : decode cX2_init 43 = .ok (.aload_n 0, 1) := by decide +kernel
theorem dX2_init_44 : decode cX2_init 44 = .ok (.ldc 29, 2) := by decide +kernel
theorem dX2_init_46 : decode cX2_init 46 = .ok (.putfield 30, 3) := by decide +kernel
theorem dX2_init_49 : decode cX2_init 49 = .ok (.aload_n 0, 1) := by decide +kernel
theorem dX2_init_50 : decode cX2_init 50 = .ok (.ldc 33, 2) := by decide +kernel
theorem dX2_init_52 : decode cX2_init 52 = .ok (.putfield 34, 3) := by decide +kernel
theorem dX2_init_55 : decode cX2_init 55 = .ok (.aload_n 0, 1) := by decide +kernel
theorem dX2_init_56 : decode cX2_init 56 = .ok (.bipush 8, 2) := by decide +kernel
theorem dX2_init_58 : decode cX2_init 58 = .ok (.newarray .int, 2) := by decide +kernel
theorem dX2_init_60 : decode cX2_init 60 = .ok (.putfield 37, 3) := by decide +kernel
theorem dX2_init_63 : decode cX2_init 63 = .ok (.aload_n 0, 1) := by decide +kernel
theorem dX2_init_64 : decode cX2_init 64 = .ok (.bipush 16, 2) := by decide +kernel
theorem dX2_init_66 : decode cX2_init 66 = .ok (.newarray .boolean, 2) := by decide +kernel
theorem dX2_init_68 : decode cX2_init 68 = .ok (.putfield 40, 3) := by decide +kernel
theorem dX2_init_71 : decode cX2_init 71 = .ok (.aload_n 0, 1) := by decide +kernel
theorem dX2_init_72 : decode cX2_init 72 = .ok (.bipush 16, 2) := by decide +kernel
theorem dX2_init_74 : decode cX2_init 74 = .ok (.newarray .int, 2) := by decide +kernel
theorem dX2_init_76 : decode cX2_init 76 = .ok (.putfield 44, 3) := by decide +kernel
theorem dX2_init_79 : decode cX2_init 79 = .ok (.aload_n 0, 1) := by decide +kernel
theorem dX2_init_80 : decode cX2_init 80 = .ok (.iconst 0, 1) := by decide +kernel
theorem dX2_init_81 : decode cX2_init 81 = .ok (.putfield 47, 3) := by decide +kernel
theorem dX2_init_84 : decode cX2_init 84 = .ok (.aload_n 0, 1) := by decide +kernel
theorem dX2_init_85 : decode cX2_init 85 = .ok (.iload_n 1, 1) := by decide +kernel
theorem dX2_init_86 : decode cX2_init 86 = .ok (.iconst 1, 1) := by decide +kernel
theorem dX2_init_87 : decode cX2_init 87 = .ok (.if_icmp .ge 7, 3) := by decide +kernel
theorem dX2_init_90 : decode cX2_init 90 = .ok (.iconst 1, 1) := by decide +kernel
theorem dX2_init_91 : decode cX2_init 91 = .ok (.goto 13, 3) := by decide +kernel
theorem dX2_init_94 : decode cX2_init 94 = .ok (.iload_n 1, 1) := by decide +kernel
theorem dX2_init_95 : decode cX2_init 95 = .ok (.iconst 4, 1) := by decide +kernel
theorem dX2_init_96 : decode cX2_init 96 = .ok (.if_icmp .le 7, 3) := by decide +kernel
theorem dX2_init_99 : decode cX2_init 99 = .ok (.iconst 4, 1) := by decide +kernel
theorem dX2_init_100 : decode cX2_init 100 = .ok (.goto 4, 3) := by decide +kernel
theorem dX2_init_103 : decode cX2_init 103 = .ok (.iload_n 1, 1) := by decide +kernel
theorem dX2_init_104 : decode cX2_init 104 = .ok (.putfield 50, 3) := by decide +kernel
theorem dX2_init_107 : decode cX2_init 107 = .ok (.return_, 1) := by decide +kernel
theorem dX2_addRecord_0 : decode cX2_addRecord 0 = .ok (.iload_n 1, 1) := by decide +kernel
theorem dX2_addRecord_1 : decode cX2_addRecord 1 = .ok (.ifCond .lt 8, 3) := by decide +kernel
theorem dX2_addRecord_4 : decode cX2_addRecord 4 = .ok (.iload_n 1, 1) := by decide +kernel
theorem dX2_addRecord_5 : decode cX2_addRecord 5 = .ok (.iconst 3, 1) := by decide +kernel
theorem dX2_addRecord_6 : decode cX2_addRecord 6 = .ok (.if_icmp .le 5, 3) := by decide +kernel
theorem dX2_addRecord_9 : decode cX2_addRecord 9 = .ok (.iconst (-1), 1) := by decide +kernel
theorem dX2_addRecord_10 : decode cX2_addRecord 10 = .ok (.ireturn, 1) := by decide +kernel
theorem dX2_addRecord_11 : decode cX2_addRecord 11 = .ok (.aload_n 0, 1) := by decide +kernel
theorem dX2_addRecord_12 : decode cX2_addRecord 12 = .ok (.getfield 7, 3) := by decide +kernel
theorem dX2_addRecord_15 : decode cX2_addRecord 15 = .ok (.iload_n 1, 1) := by decide +kernel
theorem dX2_addRecord_16 : decode cX2_addRecord 16 = .ok (.iaload, 1) := by decide +kernel
theorem dX2_addRecord_17 : decode cX2_addRecord 17 = .ok (.bipush 16, 2) := by decide +kernel
theorem dX2_addRecord_19 : decode cX2_addRecord 19 = .ok (.if_icmp .ne 6, 3) := by decide +kernel
theorem dX2_addRecord_22 : decode cX2_addRecord 22 = .ok (.bipush (-2), 2) := by decide +kernel
theorem dX2_addRecord_24 : decode cX2_addRecord 24 = .ok (.ireturn, 1) := by decide +kernel
theorem dX2_addRecord_25 : decode cX2_addRecord 25 = .ok (.aload_n 0, 1) := by decide +kernel
theorem dX2_addRecord_26 : decode cX2_addRecord 26 = .ok (.getfield 13, 3) := by decide +kernel
theorem dX2_addRecord_29 : decode cX2_addRecord 29 = .ok (.bipush 16, 2) := by decide +kernel
theorem dX2_addRecord_31 : decode cX2_addRecord 31 = .ok (.iload_n 1, 1) := by decide +kernel
theorem dX2_addRecord_32 : decode cX2_addRecord 32 = .ok (.imul, 1) := by decide +kernel
theorem dX2_addRecord_33 : decode cX2_addRecord 33 = .ok (.aload_n 0, 1) := by decide +kernel
theorem dX2_addRecord_34 : decode cX2_addRecord 34 = .ok (.getfield 7, 3) := by decide +kernel
theorem dX2_addRecord_37 : decode cX2_addRecord 37 = .ok (.iload_n 1, 1) := by decide +kernel
theorem dX2_addRecord_38 : decode cX2_addRecord 38 = .ok (.iaload, 1) := by decide +kernel
theorem dX2_addRecord_39 : decode cX2_addRecord 39 = .ok (.iadd, 1) := by decide +kernel
theorem dX2_addRecord_40 : decode cX2_addRecord 40 = .ok (.iload_n 2, 1) := by decide +kernel
theorem dX2_addRecord_41 : decode cX2_addRecord 41 = .ok (.iastore, 1) := by decide +kernel
theorem dX2_addRecord_42 : decode cX2_addRecord 42 = .ok (.aload_n 0, 1) := by decide +kernel
theorem dX2_addRecord_43 : decode cX2_addRecord 43 = .ok (.getfield 16, 3) := by decide +kernel
theorem dX2_addRecord_46 : decode cX2_addRecord 46 = .ok (.bipush 16, 2) := by decide +kernel
theorem dX2_addRecord_48 : decode cX2_addRecord 48 = .ok (.iload_n 1, 1) := by decide +kernel
theorem dX2_addRecord_49 : decode cX2_addRecord 49 = .ok (.imul, 1) := by decide +kernel
theorem dX2_addRecord_50 : decode cX2_addRecord 50 = .ok (.aload_n 0, 1) := by decide +kernel
theorem dX2_addRecord_51 : decode cX2_addRecord 51 = .ok (.getfield 7, 3) := by decide +kernel
theorem dX2_addRecord_54 : decode cX2_addRecord 54 = .ok (.iload_n 1, 1) := by decide +kernel
theorem dX2_addRecord_55 : decode cX2_addRecord 55 = .ok (.iaload, 1) := by decide +kernel
theorem dX2_addRecord_56 : decode cX2_addRecord 56 = .ok (.iadd, 1) := by decide +kernel
theorem dX2_addRecord_57 : decode cX2_addRecord 57 = .ok (.iload_n 3, 1) := by decide +kernel
theorem dX2_addRecord_58 : decode cX2_addRecord 58 = .ok (.iastore, 1) := by decide +kernel
theorem dX2_addRecord_59 : decode cX2_addRecord 59 = .ok (.aload_n 0, 1) := by decide +kernel
theorem dX2_addRecord_60 : decode cX2_addRecord 60 = .ok (.getfield 7, 3) := by decide +kernel
theorem dX2_addRecord_63 : decode cX2_addRecord 63 = .ok (.iload_n 1, 1) := by decide +kernel
theorem dX2_addRecord_64 : decode cX2_addRecord 64 = .ok (.dup2, 1) := by decide +kernel
theorem dX2_addRecord_65 : decode cX2_addRecord 65 = .ok (.iaload, 1) := by decide +kernel
theorem dX2_addRecord_66 : decode cX2_addRecord 66 = .ok (.iconst 1, 1) := by decide +kernel
theorem dX2_addRecord_67 : decode cX2_addRecord 67 = .ok (.iadd, 1) := by decide +kernel
theorem dX2_addRecord_68 : decode cX2_addRecord 68 = .ok (.iastore, 1) := by decide +kernel
theorem dX2_addRecord_69 : decode cX2_addRecord 69 = .ok (.aload_n 0, 1) := by decide +kernel
theorem dX2_addRecord_70 : decode cX2_addRecord 70 = .ok (.getfield 7, 3) := by decide +kernel
theorem dX2_addRecord_73 : decode cX2_addRecord 73 = .ok (.iload_n 1, 1) := by decide +kernel
theorem dX2_addRecord_74 : decode cX2_addRecord 74 = .ok (.iaload, 1) := by decide +kernel
theorem dX2_addRecord_75 : decode cX2_addRecord 75 = .ok (.ireturn, 1) := by decide +kernel
theorem dX2_mapping_0 : decode cX2_mapping 0 = .ok (.iload_n 1, 1) := by decide +kernel
theorem dX2_mapping_1 : decode cX2_mapping 1 = .ok (.iconst 1, 1) := by decide +kernel
theorem dX2_mapping_2 : decode cX2_mapping 2 = .ok (.if_icmp .lt 9, 3) := by decide +kernel
theorem dX2_mapping_5 : decode cX2_mapping 5 = .ok (.iload_n 1, 1) := by decide +kernel
theorem dX2_mapping_6 : decode cX2_mapping 6 = .ok (.bipush 16, 2) := by decide +kernel
theorem dX2_mapping_8 : decode cX2_mapping 8 = .ok (.if_icmp .le 5, 3) := by decide +kernel
theorem dX2_mapping_11 : decode cX2_mapping 11 = .ok (.iconst 0, 1) := by decide +kernel
theorem dX2_mapping_12 : decode cX2_mapping 12 = .ok (.ireturn, 1) := by decide +kernel
theorem dX2_mapping_13 : decode cX2_mapping 13 = .ok (.aload_n 0, 1) := by decide +kernel
theorem dX2_mapping_14 : decode cX2_mapping 14 = .ok (.iload_n 1, 1) := by decide +kernel
theorem dX2_mapping_15 : decode cX2_mapping 15 = .ok (.putfield 19, 3) := by decide +kernel
theorem dX2_mapping_18 : decode cX2_mapping 18 = .ok (.aload_n 0, 1) := by decide +kernel
theorem dX2_mapping_19 : decode cX2_mapping 19 = .ok (.iload_n 2, 1) := by decide +kernel
theorem dX2_mapping_20 : decode cX2_mapping 20 = .ok (.putfield 23, 3) := by decide +kernel
theorem dX2_mapping_23 : decode cX2_mapping 23 = .ok (.aload_n 0, 1) := by decide +kernel
theorem dX2_mapping_24 : decode cX2_mapping 24 = .ok (.iload_n 3, 1) := by decide +kernel
theorem dX2_mapping_25 : decode cX2_mapping 25 = .ok (.putfield 26, 3) := by decide +kernel
theorem dX2_mapping_28 : decode cX2_mapping 28 = .ok (.iconst 1, 1) := by decide +kernel
theorem dX2_mapping_29 : decode cX2_mapping 29 = .ok (.ireturn, 1) := by decide +kernel
theorem dX2_bounds_0 : decode cX2_bounds 0 = .ok (.aload_n 0, 1) := by decide +kernel
theorem dX2_bounds_1 : decode cX2_bounds 1 = .ok (.iload_n 1, 1) := by decide +kernel
theorem dX2_bounds_2 : decode cX2_bounds 2 = .ok (.putfield 30, 3) := by decide +kernel
theorem dX2_bounds_5 : decode cX2_bounds 5 = .ok (.aload_n 0, 1) := by decide +kernel
theorem dX2_bounds_6 : decode cX2_bounds 6 = .ok (.iload_n 2, 1) := by decide +kernel
theorem dX2_bounds_7 : decode cX2_bounds 7 = .ok (.putfield 34, 3) := by decide +kernel
theorem dX2_bounds_10 : decode cX2_bounds 10 = .ok (.return_, 1) := by decide +kernel
theorem dX2_failures_0 : decode cX2_failures 0 = .ok (.iload_n 2, 1) := by decide +kernel
theorem dX2_failures_1 : decode cX2_failures 1 = .ok (.ifCond .lt 28, 3) := by decide +kernel
theorem dX2_failures_4 : decode cX2_failures 4 = .ok (.iload_n 2, 1) := by decide +kernel
theorem dX2_failures_5 : decode cX2_failures 5 = .ok (.iload_n 1, 1) := by decide +kernel
theorem dX2_failures_6 : decode cX2_failures 6 = .ok (.ifCond .eq 10, 3) := by decide +kernel
theorem dX2_failures_9 : decode cX2_failures 9 = .ok (.aload_n 0, 1) := by decide +kernel
theorem dX2_failures_10 : decode cX2_failures 10 = .ok (.getfield 50, 3) := by decide +kernel
theorem dX2_failures_13 : decode cX2_failures 13 = .ok (.goto 4, 3) := by decide +kernel
theorem dX2_failures_16 : decode cX2_failures 16 = .ok (.iconst 4, 1) := by decide +kernel
theorem dX2_failures_17 : decode cX2_failures 17 = .ok (.if_icmp .ge 12, 3) := by decide +kernel
theorem dX2_failures_20 : decode cX2_failures 20 = .ok (.iload_n 3, 1) := by decide +kernel
theorem dX2_failures_21 : decode cX2_failures 21 = .ok (.ifCond .lt 8, 3) := by decide +kernel
theorem dX2_failures_24 : decode cX2_failures 24 = .ok (.iload_n 3, 1) := by decide +kernel
theorem dX2_failures_25 : decode cX2_failures 25 = .ok (.iconst 3, 1) := by decide +kernel
theorem dX2_failures_26 : decode cX2_failures 26 = .ok (.if_icmp .le 5, 3) := by decide +kernel
theorem dX2_failures_29 : decode cX2_failures 29 = .ok (.iconst 0, 1) := by decide +kernel
theorem dX2_failures_30 : decode cX2_failures 30 = .ok (.ireturn, 1) := by decide +kernel
theorem dX2_failures_31 : decode cX2_failures 31 = .ok (.aload_n 0, 1) := by decide +kernel
theorem dX2_failures_32 : decode cX2_failures 32 = .ok (.getfield 37, 3) := by decide +kernel
theorem dX2_failures_35 : decode cX2_failures 35 = .ok (.iload_n 1, 1) := by decide +kernel
theorem dX2_failures_36 : decode cX2_failures 36 = .ok (.ifCond .eq 9, 3) := by decide +kernel
theorem dX2_failures_39 : decode cX2_failures 39 = .ok (.iconst 4, 1) := by decide +kernel
theorem dX2_failures_40 : decode cX2_failures 40 = .ok (.iload_n 2, 1) := by decide +kernel
theorem dX2_failures_41 : decode cX2_failures 41 = .ok (.iadd, 1) := by decide +kernel
theorem dX2_failures_42 : decode cX2_failures 42 = .ok (.goto 4, 3) := by decide +kernel
theorem dX2_failures_45 : decode cX2_failures 45 = .ok (.iload_n 2, 1) := by decide +kernel
theorem dX2_failures_46 : decode cX2_failures 46 = .ok (.iload_n 3, 1) := by decide +kernel
theorem dX2_failures_47 : decode cX2_failures 47 = .ok (.iastore, 1) := by decide +kernel
theorem dX2_failures_48 : decode cX2_failures 48 = .ok (.iconst 1, 1) := by decide +kernel
theorem dX2_failures_49 : decode cX2_failures 49 = .ok (.ireturn, 1) := by decide +kernel
theorem dX2_run_0 : decode cX2_run 0 = .ok (.iload_n 1, 1) := by decide +kernel
theorem dX2_run_1 : decode cX2_run 1 = .ok (.ifCond .lt 8, 3) := by decide +kernel
theorem dX2_run_4 : decode cX2_run 4 = .ok (.iload_n 1, 1) := by decide +kernel
theorem dX2_run_5 : decode cX2_run 5 = .ok (.iconst 4, 1) := by decide +kernel
theorem dX2_run_6 : decode cX2_run 6 = .ok (.if_icmp .le 5, 3) := by decide +kernel
theorem dX2_run_9 : decode cX2_run 9 = .ok (.iconst (-1), 1) := by decide +kernel
theorem dX2_run_10 : decode cX2_run 10 = .ok (.ireturn, 1) := by decide +kernel
theorem dX2_run_11 : decode cX2_run 11 = .ok (.iconst 0, 1) := by decide +kernel
theorem dX2_run_12 : decode cX2_run 12 = .ok (.istore_n 2, 1) := by decide +kernel
theorem dX2_run_13 : decode cX2_run 13 = .ok (.iconst 0, 1) := by decide +kernel
theorem dX2_run_14 : decode cX2_run 14 = .ok (.istore_n 3, 1) := by decide +kernel
theorem dX2_run_15 : decode cX2_run 15 = .ok (.iload_n 3, 1) := by decide +kernel
theorem dX2_run_16 : decode cX2_run 16 = .ok (.bipush 8, 2) := by decide +kernel
theorem dX2_run_18 : decode cX2_run 18 = .ok (.if_icmp .ge 25, 3) := by decide +kernel
theorem dX2_run_21 : decode cX2_run 21 = .ok (.iload_n 2, 1) := by decide +kernel
theorem dX2_run_22 : decode cX2_run 22 = .ok (.aload_n 0, 1) := by decide +kernel
theorem dX2_run_23 : decode cX2_run 23 = .ok (.getfield 37, 3) := by decide +kernel
theorem dX2_run_26 : decode cX2_run 26 = .ok (.iload_n 3, 1) := by decide +kernel
theorem dX2_run_27 : decode cX2_run 27 = .ok (.iaload, 1) := by decide +kernel
theorem dX2_run_28 : decode cX2_run 28 = .ok (.iadd, 1) := by decide +kernel
theorem dX2_run_29 : decode cX2_run 29 = .ok (.istore_n 2, 1) := by decide +kernel
theorem dX2_run_30 : decode cX2_run 30 = .ok (.aload_n 0, 1) := by decide +kernel
theorem dX2_run_31 : decode cX2_run 31 = .ok (.getfield 37, 3) := by decide +kernel
theorem dX2_run_34 : decode cX2_run 34 = .ok (.iload_n 3, 1) := by decide +kernel
theorem dX2_run_35 : decode cX2_run 35 = .ok (.iconst 0, 1) := by decide +kernel
theorem dX2_run_36 : decode cX2_run 36 = .ok (.iastore, 1) := by decide +kernel
theorem dX2_run_37 : decode cX2_run 37 = .ok (.iinc 3 1, 3) := by decide +kernel
theorem dX2_run_40 : decode cX2_run 40 = .ok (.goto (-25), 3) := by decide +kernel
theorem dX2_run_43 : decode cX2_run 43 = .ok (.aload_n 0, 1) := by decide +kernel
theorem dX2_run_44 : decode cX2_run 44 = .ok (.iconst 0, 1) := by decide +kernel
theorem dX2_run_45 : decode cX2_run 45 = .ok (.putfield 47, 3) := by decide +kernel
theorem dX2_run_48 : decode cX2_run 48 = .ok (.iconst 0, 1) := by decide +kernel
theorem dX2_run_49 : decode cX2_run 49 = .ok (.istore_n 3, 1) := by decide +kernel
theorem dX2_run_50 : decode cX2_run 50 = .ok (.iload_n 3, 1) := by decide +kernel
theorem dX2_run_51 : decode cX2_run 51 = .ok (.bipush 64, 2) := by decide +kernel
theorem dX2_run_53 : decode cX2_run 53 = .ok (.if_icmp .ge 27, 3) := by decide +kernel
theorem dX2_run_56 : decode cX2_run 56 = .ok (.aload_n 0, 1) := by decide +kernel
theorem dX2_run_57 : decode cX2_run 57 = .ok (.iload_n 3, 1) := by decide +kernel
theorem dX2_run_58 : decode cX2_run 58 = .ok (.invokevirtual 53, 3) := by decide +kernel
theorem dX2_run_61 : decode cX2_run 61 = .ok (.ifCond .eq 13, 3) := by decide +kernel
theorem dX2_run_64 : decode cX2_run 64 = .ok (.aload_n 0, 1) := by decide +kernel
theorem dX2_run_65 : decode cX2_run 65 = .ok (.dup, 1) := by decide +kernel
theorem dX2_run_66 : decode cX2_run 66 = .ok (.getfield 47, 3) := by decide +kernel
theorem dX2_run_69 : decode cX2_run 69 = .ok (.iconst 1, 1) := by decide +kernel
theorem dX2_run_70 : decode cX2_run 70 = .ok (.iadd, 1) := by decide +kernel
theorem dX2_run_71 : decode cX2_run 71 = .ok (.putfield 47, 3) := by decide +kernel
theorem dX2_run_74 : decode cX2_run 74 = .ok (.iinc 3 1, 3) := by decide +kernel
theorem dX2_run_77 : decode cX2_run 77 = .ok (.goto (-27), 3) := by decide +kernel
theorem dX2_run_80 : decode cX2_run 80 = .ok (.iconst 0, 1) := by decide +kernel
theorem dX2_run_81 : decode cX2_run 81 = .ok (.istore_n 3, 1) := by decide +kernel
theorem dX2_run_82 : decode cX2_run 82 = .ok (.iconst 0, 1) := by decide +kernel
theorem dX2_run_83 : decode cX2_run 83 = .ok (.istore 4, 2) := by decide +kernel
theorem dX2_run_85 : decode cX2_run 85 = .ok (.iload 4, 2) := by decide +kernel
theorem dX2_run_87 : decode cX2_run 87 = .ok (.bipush 16, 2) := by decide +kernel
theorem dX2_run_89 : decode cX2_run 89 = .ok (.if_icmp .ge 50, 3) := by decide +kernel
theorem dX2_run_92 : decode cX2_run 92 = .ok (.aload_n 0, 1) := by decide +kernel
theorem dX2_run_93 : decode cX2_run 93 = .ok (.getfield 44, 3) := by decide +kernel
theorem dX2_run_96 : decode cX2_run 96 = .ok (.iload 4, 2) := by decide +kernel
theorem dX2_run_98 : decode cX2_run 98 = .ok (.aload_n 0, 1) := by decide +kernel
theorem dX2_run_99 : decode cX2_run 99 = .ok (.iload_n 1, 1) := by decide +kernel
theorem dX2_run_100 : decode cX2_run 100 = .ok (.iload 4, 2) := by decide +kernel
theorem dX2_run_102 : decode cX2_run 102 = .ok (.invokevirtual 61, 3) := by decide +kernel
theorem dX2_run_105 : decode cX2_run 105 = .ok (.iastore, 1) := by decide +kernel
theorem dX2_run_106 : decode cX2_run 106 = .ok (.iload_n 2, 1) := by decide +kernel
theorem dX2_run_107 : decode cX2_run 107 = .ok (.bipush 6, 2) := by decide +kernel
theorem dX2_run_109 : decode cX2_run 109 = .ok (.if_icmp .le 11, 3) := by decide +kernel
theorem dX2_run_112 : decode cX2_run 112 = .ok (.aload_n 0, 1) := by decide +kernel
theorem dX2_run_113 : decode cX2_run 113 = .ok (.getfield 40, 3) := by decide +kernel
theorem dX2_run_116 : decode cX2_run 116 = .ok (.iload 4, 2) := by decide +kernel
theorem dX2_run_118 : decode cX2_run 118 = .ok (.iconst 0, 1) := by decide +kernel
theorem dX2_run_119 : decode cX2_run 119 = .ok (.bastore, 1) := by decide +kernel
theorem dX2_run_120 : decode cX2_run 120 = .ok (.aload_n 0, 1) := by decide +kernel
theorem dX2_run_121 : decode cX2_run 121 = .ok (.getfield 40, 3) := by decide +kernel
theorem dX2_run_124 : decode cX2_run 124 = .ok (.iload 4, 2) := by decide +kernel
theorem dX2_run_126 : decode cX2_run 126 = .ok (.baload, 1) := by decide +kernel
theorem dX2_run_127 : decode cX2_run 127 = .ok (.ifCond .eq 6, 3) := by decide +kernel
theorem dX2_run_130 : decode cX2_run 130 = .ok (.iinc 3 1, 3) := by decide +kernel
theorem dX2_run_133 : decode cX2_run 133 = .ok (.iinc 4 1, 3) := by decide +kernel
theorem dX2_run_136 : decode cX2_run 136 = .ok (.goto (-51), 3) := by decide +kernel
theorem dX2_run_139 : decode cX2_run 139 = .ok (.iload_n 2, 1) := by decide +kernel
theorem dX2_run_140 : decode cX2_run 140 = .ok (.bipush 6, 2) := by decide +kernel
theorem dX2_run_142 : decode cX2_run 142 = .ok (.if_icmp .le 8, 3) := by decide +kernel
theorem dX2_run_145 : decode cX2_run 145 = .ok (.bipush (-3), 2) := by decide +kernel
theorem dX2_run_147 : decode cX2_run 147 = .ok (.goto 4, 3) := by decide +kernel
theorem dX2_run_150 : decode cX2_run 150 = .ok (.iload_n 3, 1) := by decide +kernel
theorem dX2_run_151 : decode cX2_run 151 = .ok (.ireturn, 1) := by decide +kernel
theorem dX2_counts_0 : decode cX2_counts 0 = .ok (.iload_n 1, 1) := by decide +kernel
theorem dX2_counts_1 : decode cX2_counts 1 = .ok (.bipush 15, 2) := by decide +kernel
theorem dX2_counts_3 : decode cX2_counts 3 = .ok (.iand, 1) := by decide +kernel
theorem dX2_counts_4 : decode cX2_counts 4 = .ok (.aload_n 0, 1) := by decide +kernel
theorem dX2_counts_5 : decode cX2_counts 5 = .ok (.getfield 7, 3) := by decide +kernel
theorem dX2_counts_8 : decode cX2_counts 8 = .ok (.iload_n 1, 1) := by decide +kernel
theorem dX2_counts_9 : decode cX2_counts 9 = .ok (.iconst 4, 1) := by decide +kernel
theorem dX2_counts_10 : decode cX2_counts 10 = .ok (.ishr, 1) := by decide +kernel
theorem dX2_counts_11 : decode cX2_counts 11 = .ok (.iaload, 1) := by decide +kernel
theorem dX2_counts_12 : decode cX2_counts 12 = .ok (.if_icmp .ge 33, 3) := by decide +kernel
theorem dX2_counts_15 : decode cX2_counts 15 = .ok (.aload_n 0, 1) := by decide +kernel
theorem dX2_counts_16 : decode cX2_counts 16 = .ok (.getfield 16, 3) := by decide +kernel
theorem dX2_counts_19 : decode cX2_counts 19 = .ok (.iload_n 1, 1) := by decide +kernel
theorem dX2_counts_20 : decode cX2_counts 20 = .ok (.iaload, 1) := by decide +kernel
theorem dX2_counts_21 : decode cX2_counts 21 = .ok (.aload_n 0, 1) := by decide +kernel
theorem dX2_counts_22 : decode cX2_counts 22 = .ok (.getfield 30, 3) := by decide +kernel
theorem dX2_counts_25 : decode cX2_counts 25 = .ok (.if_icmp .lt 20, 3) := by decide +kernel
theorem dX2_counts_28 : decode cX2_counts 28 = .ok (.aload_n 0, 1) := by decide +kernel
theorem dX2_counts_29 : decode cX2_counts 29 = .ok (.getfield 16, 3) := by decide +kernel
theorem dX2_counts_32 : decode cX2_counts 32 = .ok (.iload_n 1, 1) := by decide +kernel
theorem dX2_counts_33 : decode cX2_counts 33 = .ok (.iaload, 1) := by decide +kernel
theorem dX2_counts_34 : decode cX2_counts 34 = .ok (.aload_n 0, 1) := by decide +kernel
theorem dX2_counts_35 : decode cX2_counts 35 = .ok (.getfield 34, 3) := by decide +kernel
theorem dX2_counts_38 : decode cX2_counts 38 = .ok (.if_icmp .gt 7, 3) := by decide +kernel
theorem dX2_counts_41 : decode cX2_counts 41 = .ok (.iconst 1, 1) := by decide +kernel
theorem dX2_counts_42 : decode cX2_counts 42 = .ok (.goto 4, 3) := by decide +kernel
theorem dX2_counts_45 : decode cX2_counts 45 = .ok (.iconst 0, 1) := by decide +kernel
theorem dX2_counts_46 : decode cX2_counts 46 = .ok (.ireturn, 1) := by decide +kernel
theorem dX2_reduce_0 : decode cX2_reduce 0 = .ok (.bipush 7, 2) := by decide +kernel
theorem dX2_reduce_2 : decode cX2_reduce 2 = .ok (.istore_n 3, 1) := by decide +kernel
theorem dX2_reduce_3 : decode cX2_reduce 3 = .ok (.iconst 0, 1) := by decide +kernel
theorem dX2_reduce_4 : decode cX2_reduce 4 = .ok (.istore 4, 2) := by decide +kernel
theorem dX2_reduce_6 : decode cX2_reduce 6 = .ok (.iconst 0, 1) := by decide +kernel
theorem dX2_reduce_7 : decode cX2_reduce 7 = .ok (.istore 5, 2) := by decide +kernel
theorem dX2_reduce_9 : decode cX2_reduce 9 = .ok (.iconst 0, 1) := by decide +kernel
theorem dX2_reduce_10 : decode cX2_reduce 10 = .ok (.istore 6, 2) := by decide +kernel
theorem dX2_reduce_12 : decode cX2_reduce 12 = .ok (.iconst 0, 1) := by decide +kernel
theorem dX2_reduce_13 : decode cX2_reduce 13 = .ok (.istore 7, 2) := by decide +kernel
theorem dX2_reduce_15 : decode cX2_reduce 15 = .ok (.iconst 0, 1) := by decide +kernel
theorem dX2_reduce_16 : decode cX2_reduce 16 = .ok (.istore 8, 2) := by decide +kernel
theorem dX2_reduce_18 : decode cX2_reduce 18 = .ok (.iload 8, 2) := by decide +kernel
theorem dX2_reduce_20 : decode cX2_reduce 20 = .ok (.bipush 64, 2) := by decide +kernel
theorem dX2_reduce_22 : decode cX2_reduce 22 = .ok (.if_icmp .ge 97, 3) := by decide +kernel
theorem dX2_reduce_25 : decode cX2_reduce 25 = .ok (.aload_n 0, 1) := by decide +kernel
theorem dX2_reduce_26 : decode cX2_reduce 26 = .ok (.iload 8, 2) := by decide +kernel
theorem dX2_reduce_28 : decode cX2_reduce 28 = .ok (.invokevirtual 53, 3) := by decide +kernel
theorem dX2_reduce_31 : decode cX2_reduce 31 = .ok (.ifCond .eq 82, 3) := by decide +kernel
theorem dX2_reduce_34 : decode cX2_reduce 34 = .ok (.aload_n 0, 1) := by decide +kernel
theorem dX2_reduce_35 : decode cX2_reduce 35 = .ok (.iload 8, 2) := by decide +kernel
theorem dX2_reduce_37 : decode cX2_reduce 37 = .ok (.invokevirtual 57, 3) := by decide +kernel
theorem dX2_reduce_40 : decode cX2_reduce 40 = .ok (.iload_n 2, 1) := by decide +kernel
theorem dX2_reduce_41 : decode cX2_reduce 41 = .ok (.if_icmp .ne 72, 3) := by decide +kernel
theorem dX2_reduce_44 : decode cX2_reduce 44 = .ok (.aload_n 0, 1) := by decide +kernel
theorem dX2_reduce_45 : decode cX2_reduce 45 = .ok (.getfield 23, 3) := by decide +kernel
theorem dX2_reduce_48 : decode cX2_reduce 48 = .ok (.aload_n 0, 1) := by decide +kernel
theorem dX2_reduce_49 : decode cX2_reduce 49 = .ok (.getfield 16, 3) := by decide +kernel
theorem dX2_reduce_52 : decode cX2_reduce 52 = .ok (.iload 8, 2) := by decide +kernel
theorem dX2_reduce_54 : decode cX2_reduce 54 = .ok (.iaload, 1) := by decide +kernel
theorem dX2_reduce_55 : decode cX2_reduce 55 = .ok (.imul, 1) := by decide +kernel
theorem dX2_reduce_56 : decode cX2_reduce 56 = .ok (.aload_n 0, 1) := by decide +kernel
theorem dX2_reduce_57 : decode cX2_reduce 57 = .ok (.getfield 26, 3) := by decide +kernel
theorem dX2_reduce_60 : decode cX2_reduce 60 = .ok (.iadd, 1) := by decide +kernel
theorem dX2_reduce_61 : decode cX2_reduce 61 = .ok (.istore 9, 2) := by decide +kernel
theorem dX2_reduce_63 : decode cX2_reduce 63 = .ok (.iload 4, 2) := by decide +kernel
theorem dX2_reduce_65 : decode cX2_reduce 65 = .ok (.iload 9, 2) := by decide +kernel
theorem dX2_reduce_67 : decode cX2_reduce 67 = .ok (.iadd, 1) := by decide +kernel
theorem dX2_reduce_68 : decode cX2_reduce 68 = .ok (.istore 4, 2) := by decide +kernel
theorem dX2_reduce_70 : decode cX2_reduce 70 = .ok (.bipush 31, 2) := by decide +kernel
theorem dX2_reduce_72 : decode cX2_reduce 72 = .ok (.iload_n 3, 1) := by decide +kernel
theorem dX2_reduce_73 : decode cX2_reduce 73 = .ok (.imul, 1) := by decide +kernel
theorem dX2_reduce_74 : decode cX2_reduce 74 = .ok (.iload 9, 2) := by decide +kernel
theorem dX2_reduce_76 : decode cX2_reduce 76 = .ok (.iadd, 1) := by decide +kernel
theorem dX2_reduce_77 : decode cX2_reduce 77 = .ok (.istore_n 3, 1) := by decide +kernel
theorem dX2_reduce_78 : decode cX2_reduce 78 = .ok (.iload 5, 2) := by decide +kernel
theorem dX2_reduce_80 : decode cX2_reduce 80 = .ok (.ifCond .eq 10, 3) := by decide +kernel
theorem dX2_reduce_83 : decode cX2_reduce 83 = .ok (.iload 9, 2) := by decide +kernel
theorem dX2_reduce_85 : decode cX2_reduce 85 = .ok (.iload 6, 2) := by decide +kernel
theorem dX2_reduce_87 : decode cX2_reduce 87 = .ok (.if_icmp .le 7, 3) := by decide +kernel
theorem dX2_reduce_90 : decode cX2_reduce 90 = .ok (.iload 9, 2) := by decide +kernel
theorem dX2_reduce_92 : decode cX2_reduce 92 = .ok (.istore 6, 2) := by decide +kernel
theorem dX2_reduce_94 : decode cX2_reduce 94 = .ok (.iload 5, 2) := by decide +kernel
theorem dX2_reduce_96 : decode cX2_reduce 96 = .ok (.ifCond .eq 10, 3) := by decide +kernel
theorem dX2_reduce_99 : decode cX2_reduce 99 = .ok (.iload 9, 2) := by decide +kernel
theorem dX2_reduce_101 : decode cX2_reduce 101 = .ok (.iload 7, 2) := by decide +kernel
theorem dX2_reduce_103 : decode cX2_reduce 103 = .ok (.if_icmp .ge 7, 3) := by decide +kernel
theorem dX2_reduce_106 : decode cX2_reduce 106 = .ok (.iload 9, 2) := by decide +kernel
theorem dX2_reduce_108 : decode cX2_reduce 108 = .ok (.istore 7, 2) := by decide +kernel
theorem dX2_reduce_110 : decode cX2_reduce 110 = .ok (.iinc 5 1, 3) := by decide +kernel
theorem dX2_reduce_113 : decode cX2_reduce 113 = .ok (.iinc 8 1, 3) := by decide +kernel
theorem dX2_reduce_116 : decode cX2_reduce 116 = .ok (.goto (-98), 3) := by decide +kernel
theorem dX2_reduce_119 : decode cX2_reduce 119 = .ok (.aload_n 0, 1) := by decide +kernel
theorem dX2_reduce_120 : decode cX2_reduce 120 = .ok (.getfield 40, 3) := by decide +kernel
theorem dX2_reduce_123 : decode cX2_reduce 123 = .ok (.iload_n 2, 1) := by decide +kernel
theorem dX2_reduce_124 : decode cX2_reduce 124 = .ok (.iload 5, 2) := by decide +kernel
theorem dX2_reduce_126 : decode cX2_reduce 126 = .ok (.ifCond .le 7, 3) := by decide +kernel
theorem dX2_reduce_129 : decode cX2_reduce 129 = .ok (.iconst 1, 1) := by decide +kernel
theorem dX2_reduce_130 : decode cX2_reduce 130 = .ok (.goto 4, 3) := by decide +kernel
theorem dX2_reduce_133 : decode cX2_reduce 133 = .ok (.iconst 0, 1) := by decide +kernel
theorem dX2_reduce_134 : decode cX2_reduce 134 = .ok (.bastore, 1) := by decide +kernel
theorem dX2_reduce_135 : decode cX2_reduce 135 = .ok (.iload_n 1, 1) := by decide +kernel
theorem dX2_reduce_136 : decode cX2_reduce 136 = .ok (.ifCond .ne 6, 3) := by decide +kernel
theorem dX2_reduce_139 : decode cX2_reduce 139 = .ok (.iload 4, 2) := by decide +kernel
theorem dX2_reduce_141 : decode cX2_reduce 141 = .ok (.ireturn, 1) := by decide +kernel
theorem dX2_reduce_142 : decode cX2_reduce 142 = .ok (.iload_n 1, 1) := by decide +kernel
theorem dX2_reduce_143 : decode cX2_reduce 143 = .ok (.iconst 1, 1) := by decide +kernel
theorem dX2_reduce_144 : decode cX2_reduce 144 = .ok (.if_icmp .ne 6, 3) := by decide +kernel
theorem dX2_reduce_147 : decode cX2_reduce 147 = .ok (.iload 6, 2) := by decide +kernel
theorem dX2_reduce_149 : decode cX2_reduce 149 = .ok (.ireturn, 1) := by decide +kernel
theorem dX2_reduce_150 : decode cX2_reduce 150 = .ok (.iload_n 1, 1) := by decide +kernel
theorem dX2_reduce_151 : decode cX2_reduce 151 = .ok (.iconst 2, 1) := by decide +kernel
theorem dX2_reduce_152 : decode cX2_reduce 152 = .ok (.if_icmp .ne 6, 3) := by decide +kernel
theorem dX2_reduce_155 : decode cX2_reduce 155 = .ok (.iload 7, 2) := by decide +kernel
theorem dX2_reduce_157 : decode cX2_reduce 157 = .ok (.ireturn, 1) := by decide +kernel
theorem dX2_reduce_158 : decode cX2_reduce 158 = .ok (.iload_n 1, 1) := by decide +kernel
theorem dX2_reduce_159 : decode cX2_reduce 159 = .ok (.iconst 3, 1) := by decide +kernel
theorem dX2_reduce_160 : decode cX2_reduce 160 = .ok (.if_icmp .ne 8, 3) := by decide +kernel
theorem dX2_reduce_163 : decode cX2_reduce 163 = .ok (.iload 5, 2) := by decide +kernel
theorem dX2_reduce_165 : decode cX2_reduce 165 = .ok (.goto 4, 3) := by decide +kernel
theorem dX2_reduce_168 : decode cX2_reduce 168 = .ok (.iload_n 3, 1) := by decide +kernel
theorem dX2_reduce_169 : decode cX2_reduce 169 = .ok (.ireturn, 1) := by decide +kernel
theorem dX2_keyOf_0 : decode cX2_keyOf 0 = .ok (.aload_n 0, 1) := by decide +kernel
theorem dX2_keyOf_1 : decode cX2_keyOf 1 = .ok (.getfield 13, 3) := by decide +kernel
theorem dX2_keyOf_4 : decode cX2_keyOf 4 = .ok (.iload_n 1, 1) := by decide +kernel
theorem dX2_keyOf_5 : decode cX2_keyOf 5 = .ok (.iaload, 1) := by decide +kernel
theorem dX2_keyOf_6 : decode cX2_keyOf 6 = .ok (.aload_n 0, 1) := by decide +kernel
theorem dX2_keyOf_7 : decode cX2_keyOf 7 = .ok (.getfield 19, 3) := by decide +kernel
theorem dX2_keyOf_10 : decode cX2_keyOf 10 = .ok (.iconst 1, 1) := by decide +kernel
theorem dX2_keyOf_11 : decode cX2_keyOf 11 = .ok (.if_icmp .ge 7, 3) := by decide +kernel
theorem dX2_keyOf_14 : decode cX2_keyOf 14 = .ok (.iconst 1, 1) := by decide +kernel
theorem dX2_keyOf_15 : decode cX2_keyOf 15 = .ok (.goto 7, 3) := by decide +kernel
theorem dX2_keyOf_18 : decode cX2_keyOf 18 = .ok (.aload_n 0, 1) := by decide +kernel
theorem dX2_keyOf_19 : decode cX2_keyOf 19 = .ok (.getfield 19, 3) := by decide +kernel
theorem dX2_keyOf_22 : decode cX2_keyOf 22 = .ok (.irem, 1) := by decide +kernel
theorem dX2_keyOf_23 : decode cX2_keyOf 23 = .ok (.istore_n 2, 1) := by decide +kernel
theorem dX2_keyOf_24 : decode cX2_keyOf 24 = .ok (.iload_n 2, 1) := by decide +kernel
theorem dX2_keyOf_25 : decode cX2_keyOf 25 = .ok (.ifCond .ge 12, 3) := by decide +kernel
theorem dX2_keyOf_28 : decode cX2_keyOf 28 = .ok (.iload_n 2, 1) := by decide +kernel
theorem dX2_keyOf_29 : decode cX2_keyOf 29 = .ok (.aload_n 0, 1) := by decide +kernel
theorem dX2_keyOf_30 : decode cX2_keyOf 30 = .ok (.getfield 19, 3) := by decide +kernel
theorem dX2_keyOf_33 : decode cX2_keyOf 33 = .ok (.iadd, 1) := by decide +kernel
theorem dX2_keyOf_34 : decode cX2_keyOf 34 = .ok (.goto 4, 3) := by decide +kernel
theorem dX2_keyOf_37 : decode cX2_keyOf 37 = .ok (.iload_n 2, 1) := by decide +kernel
theorem dX2_keyOf_38 : decode cX2_keyOf 38 = .ok (.ireturn, 1) := by decide +kernel
theorem dX2_results_0 : decode cX2_results 0 = .ok (.iload_n 1, 1) := by decide +kernel
theorem dX2_results_1 : decode cX2_results 1 = .ok (.ifCond .lt 11, 3) := by decide +kernel
theorem dX2_results_4 : decode cX2_results 4 = .ok (.iload_n 1, 1) := by decide +kernel
theorem dX2_results_5 : decode cX2_results 5 = .ok (.aload_n 0, 1) := by decide +kernel
theorem dX2_results_6 : decode cX2_results 6 = .ok (.getfield 50, 3) := by decide +kernel
end
section
set_option maxRecDepth 100000
theorem dX2_results_9 : decode cX2_results 9 = .ok (.if_icmp .lt 5, 3) := by decide +kernel
theorem dX2_results_12 : decode cX2_results 12 = .ok (.iconst (-1), 1) := by decide +kernel
theorem dX2_results_13 : decode cX2_results 13 = .ok (.ireturn, 1) := by decide +kernel
theorem dX2_results_14 : decode cX2_results 14 = .ok (.iconst 0, 1) := by decide +kernel
theorem dX2_results_15 : decode cX2_results 15 = .ok (.istore_n 2, 1) := by decide +kernel
theorem dX2_results_16 : decode cX2_results 16 = .ok (.iconst 0, 1) := by decide +kernel
theorem dX2_results_17 : decode cX2_results 17 = .ok (.istore_n 3, 1) := by decide +kernel
theorem dX2_results_18 : decode cX2_results 18 = .ok (.iload_n 3, 1) := by decide +kernel
theorem dX2_results_19 : decode cX2_results 19 = .ok (.bipush 16, 2) := by decide +kernel
theorem dX2_results_21 : decode cX2_results 21 = .ok (.if_icmp .ge 31, 3) := by decide +kernel
theorem dX2_results_24 : decode cX2_results 24 = .ok (.aload_n 0, 1) := by decide +kernel
theorem dX2_results_25 : decode cX2_results 25 = .ok (.getfield 40, 3) := by decide +kernel
theorem dX2_results_28 : decode cX2_results 28 = .ok (.iload_n 3, 1) := by decide +kernel
theorem dX2_results_29 : decode cX2_results 29 = .ok (.baload, 1) := by decide +kernel
theorem dX2_results_30 : decode cX2_results 30 = .ok (.ifCond .eq 16, 3) := by decide +kernel
theorem dX2_results_33 : decode cX2_results 33 = .ok (.iload_n 3, 1) := by decide +kernel
theorem dX2_results_34 : decode cX2_results 34 = .ok (.aload_n 0, 1) := by decide +kernel
theorem dX2_results_35 : decode cX2_results 35 = .ok (.getfield 50, 3) := by decide +kernel
theorem dX2_results_38 : decode cX2_results 38 = .ok (.irem, 1) := by decide +kernel
theorem dX2_results_39 : decode cX2_results 39 = .ok (.iload_n 1, 1) := by decide +kernel
theorem dX2_results_40 : decode cX2_results 40 = .ok (.if_icmp .ne 6, 3) := by decide +kernel
theorem dX2_results_43 : decode cX2_results 43 = .ok (.iinc 2 1, 3) := by decide +kernel
theorem dX2_results_46 : decode cX2_results 46 = .ok (.iinc 3 1, 3) := by decide +kernel
theorem dX2_results_49 : decode cX2_results 49 = .ok (.goto (-31), 3) := by decide +kernel
theorem dX2_results_52 : decode cX2_results 52 = .ok (.iload_n 2, 1) := by decide +kernel
theorem dX2_results_53 : decode cX2_results 53 = .ok (.ireturn, 1) := by decide +kernel
theorem dX2_keyAt_0 : decode cX2_keyAt 0 = .ok (.iload_n 1, 1) := by decide +kernel
theorem dX2_keyAt_1 : decode cX2_keyAt 1 = .ok (.ifCond .lt 11, 3) := by decide +kernel
theorem dX2_keyAt_4 : decode cX2_keyAt 4 = .ok (.iload_n 1, 1) := by decide +kernel
theorem dX2_keyAt_5 : decode cX2_keyAt 5 = .ok (.aload_n 0, 1) := by decide +kernel
theorem dX2_keyAt_6 : decode cX2_keyAt 6 = .ok (.getfield 50, 3) := by decide +kernel
theorem dX2_keyAt_9 : decode cX2_keyAt 9 = .ok (.if_icmp .lt 5, 3) := by decide +kernel
theorem dX2_keyAt_12 : decode cX2_keyAt 12 = .ok (.iconst (-1), 1) := by decide +kernel
theorem dX2_keyAt_13 : decode cX2_keyAt 13 = .ok (.ireturn, 1) := by decide +kernel
theorem dX2_keyAt_14 : decode cX2_keyAt 14 = .ok (.iconst 0, 1) := by decide +kernel
theorem dX2_keyAt_15 : decode cX2_keyAt 15 = .ok (.istore_n 3, 1) := by decide +kernel
theorem dX2_keyAt_16 : decode cX2_keyAt 16 = .ok (.iconst 0, 1) := by decide +kernel
theorem dX2_keyAt_17 : decode cX2_keyAt 17 = .ok (.istore 4, 2) := by decide +kernel
theorem dX2_keyAt_19 : decode cX2_keyAt 19 = .ok (.iload 4, 2) := by decide +kernel
theorem dX2_keyAt_21 : decode cX2_keyAt 21 = .ok (.bipush 16, 2) := by decide +kernel
theorem dX2_keyAt_23 : decode cX2_keyAt 23 = .ok (.if_icmp .ge 41, 3) := by decide +kernel
theorem dX2_keyAt_26 : decode cX2_keyAt 26 = .ok (.aload_n 0, 1) := by decide +kernel
theorem dX2_keyAt_27 : decode cX2_keyAt 27 = .ok (.getfield 40, 3) := by decide +kernel
theorem dX2_keyAt_30 : decode cX2_keyAt 30 = .ok (.iload 4, 2) := by decide +kernel
theorem dX2_keyAt_32 : decode cX2_keyAt 32 = .ok (.baload, 1) := by decide +kernel
theorem dX2_keyAt_33 : decode cX2_keyAt 33 = .ok (.ifCond .eq 25, 3) := by decide +kernel
theorem dX2_keyAt_36 : decode cX2_keyAt 36 = .ok (.iload 4, 2) := by decide +kernel
theorem dX2_keyAt_38 : decode cX2_keyAt 38 = .ok (.aload_n 0, 1) := by decide +kernel
theorem dX2_keyAt_39 : decode cX2_keyAt 39 = .ok (.getfield 50, 3) := by decide +kernel
theorem dX2_keyAt_42 : decode cX2_keyAt 42 = .ok (.irem, 1) := by decide +kernel
theorem dX2_keyAt_43 : decode cX2_keyAt 43 = .ok (.iload_n 1, 1) := by decide +kernel
theorem dX2_keyAt_44 : decode cX2_keyAt 44 = .ok (.if_icmp .ne 14, 3) := by decide +kernel
theorem dX2_keyAt_47 : decode cX2_keyAt 47 = .ok (.iload_n 3, 1) := by decide +kernel
theorem dX2_keyAt_48 : decode cX2_keyAt 48 = .ok (.iload_n 2, 1) := by decide +kernel
theorem dX2_keyAt_49 : decode cX2_keyAt 49 = .ok (.if_icmp .ne 6, 3) := by decide +kernel
theorem dX2_keyAt_52 : decode cX2_keyAt 52 = .ok (.iload 4, 2) := by decide +kernel
theorem dX2_keyAt_54 : decode cX2_keyAt 54 = .ok (.ireturn, 1) := by decide +kernel
theorem dX2_keyAt_55 : decode cX2_keyAt 55 = .ok (.iinc 3 1, 3) := by decide +kernel
theorem dX2_keyAt_58 : decode cX2_keyAt 58 = .ok (.iinc 4 1, 3) := by decide +kernel
theorem dX2_keyAt_61 : decode cX2_keyAt 61 = .ok (.goto (-42), 3) := by decide +kernel
theorem dX2_keyAt_64 : decode cX2_keyAt 64 = .ok (.iconst (-1), 1) := by decide +kernel
theorem dX2_keyAt_65 : decode cX2_keyAt 65 = .ok (.ireturn, 1) := by decide +kernel
theorem dX2_valueAt_0 : decode cX2_valueAt 0 = .ok (.aload_n 0, 1) := by decide +kernel
theorem dX2_valueAt_1 : decode cX2_valueAt 1 = .ok (.iload_n 1, 1) := by decide +kernel
theorem dX2_valueAt_2 : decode cX2_valueAt 2 = .ok (.iload_n 2, 1) := by decide +kernel
theorem dX2_valueAt_3 : decode cX2_valueAt 3 = .ok (.invokevirtual 65, 3) := by decide +kernel
theorem dX2_valueAt_6 : decode cX2_valueAt 6 = .ok (.istore_n 3, 1) := by decide +kernel
theorem dX2_valueAt_7 : decode cX2_valueAt 7 = .ok (.iload_n 3, 1) := by decide +kernel
theorem dX2_valueAt_8 : decode cX2_valueAt 8 = .ok (.iconst (-1), 1) := by decide +kernel
theorem dX2_valueAt_9 : decode cX2_valueAt 9 = .ok (.if_icmp .ne 7, 3) := by decide +kernel
theorem dX2_valueAt_12 : decode cX2_valueAt 12 = .ok (.iconst 0, 1) := by decide +kernel
theorem dX2_valueAt_13 : decode cX2_valueAt 13 = .ok (.goto 9, 3) := by decide +kernel
theorem dX2_valueAt_16 : decode cX2_valueAt 16 = .ok (.aload_n 0, 1) := by decide +kernel
theorem dX2_valueAt_17 : decode cX2_valueAt 17 = .ok (.getfield 44, 3) := by decide +kernel
theorem dX2_valueAt_20 : decode cX2_valueAt 20 = .ok (.iload_n 3, 1) := by decide +kernel
theorem dX2_valueAt_21 : decode cX2_valueAt 21 = .ok (.iaload, 1) := by decide +kernel
theorem dX2_valueAt_22 : decode cX2_valueAt 22 = .ok (.ireturn, 1) := by decide +kernel
theorem dX2_mapped_0 : decode cX2_mapped 0 = .ok (.aload_n 0, 1) := by decide +kernel
theorem dX2_mapped_1 : decode cX2_mapped 1 = .ok (.getfield 47, 3) := by decide +kernel
theorem dX2_mapped_4 : decode cX2_mapped 4 = .ok (.ireturn, 1) := by decide +kernel
theorem dX2_feedBack_0 : decode cX2_feedBack 0 = .ok (.iconst 0, 1) := by decide +kernel
theorem dX2_feedBack_1 : decode cX2_feedBack 1 = .ok (.istore_n 1, 1) := by decide +kernel
theorem dX2_feedBack_2 : decode cX2_feedBack 2 = .ok (.iconst 0, 1) := by decide +kernel
theorem dX2_feedBack_3 : decode cX2_feedBack 3 = .ok (.istore_n 2, 1) := by decide +kernel
theorem dX2_feedBack_4 : decode cX2_feedBack 4 = .ok (.iload_n 2, 1) := by decide +kernel
theorem dX2_feedBack_5 : decode cX2_feedBack 5 = .ok (.iconst 4, 1) := by decide +kernel
theorem dX2_feedBack_6 : decode cX2_feedBack 6 = .ok (.if_icmp .ge 16, 3) := by decide +kernel
theorem dX2_feedBack_9 : decode cX2_feedBack 9 = .ok (.aload_n 0, 1) := by decide +kernel
theorem dX2_feedBack_10 : decode cX2_feedBack 10 = .ok (.getfield 7, 3) := by decide +kernel
theorem dX2_feedBack_13 : decode cX2_feedBack 13 = .ok (.iload_n 2, 1) := by decide +kernel
theorem dX2_feedBack_14 : decode cX2_feedBack 14 = .ok (.iconst 0, 1) := by decide +kernel
theorem dX2_feedBack_15 : decode cX2_feedBack 15 = .ok (.iastore, 1) := by decide +kernel
theorem dX2_feedBack_16 : decode cX2_feedBack 16 = .ok (.iinc 2 1, 3) := by decide +kernel
theorem dX2_feedBack_19 : decode cX2_feedBack 19 = .ok (.goto (-15), 3) := by decide +kernel
theorem dX2_feedBack_22 : decode cX2_feedBack 22 = .ok (.iconst 0, 1) := by decide +kernel
theorem dX2_feedBack_23 : decode cX2_feedBack 23 = .ok (.istore_n 2, 1) := by decide +kernel
theorem dX2_feedBack_24 : decode cX2_feedBack 24 = .ok (.iload_n 2, 1) := by decide +kernel
theorem dX2_feedBack_25 : decode cX2_feedBack 25 = .ok (.bipush 16, 2) := by decide +kernel
theorem dX2_feedBack_27 : decode cX2_feedBack 27 = .ok (.if_icmp .ge 39, 3) := by decide +kernel
theorem dX2_feedBack_30 : decode cX2_feedBack 30 = .ok (.aload_n 0, 1) := by decide +kernel
theorem dX2_feedBack_31 : decode cX2_feedBack 31 = .ok (.getfield 40, 3) := by decide +kernel
theorem dX2_feedBack_34 : decode cX2_feedBack 34 = .ok (.iload_n 2, 1) := by decide +kernel
theorem dX2_feedBack_35 : decode cX2_feedBack 35 = .ok (.baload, 1) := by decide +kernel
theorem dX2_feedBack_36 : decode cX2_feedBack 36 = .ok (.ifCond .eq 24, 3) := by decide +kernel
theorem dX2_feedBack_39 : decode cX2_feedBack 39 = .ok (.aload_n 0, 1) := by decide +kernel
theorem dX2_feedBack_40 : decode cX2_feedBack 40 = .ok (.iload_n 2, 1) := by decide +kernel
theorem dX2_feedBack_41 : decode cX2_feedBack 41 = .ok (.aload_n 0, 1) := by decide +kernel
theorem dX2_feedBack_42 : decode cX2_feedBack 42 = .ok (.getfield 50, 3) := by decide +kernel
theorem dX2_feedBack_45 : decode cX2_feedBack 45 = .ok (.irem, 1) := by decide +kernel
theorem dX2_feedBack_46 : decode cX2_feedBack 46 = .ok (.iload_n 2, 1) := by decide +kernel
theorem dX2_feedBack_47 : decode cX2_feedBack 47 = .ok (.aload_n 0, 1) := by decide +kernel
theorem dX2_feedBack_48 : decode cX2_feedBack 48 = .ok (.getfield 44, 3) := by decide +kernel
theorem dX2_feedBack_51 : decode cX2_feedBack 51 = .ok (.iload_n 2, 1) := by decide +kernel
theorem dX2_feedBack_52 : decode cX2_feedBack 52 = .ok (.iaload, 1) := by decide +kernel
theorem dX2_feedBack_53 : decode cX2_feedBack 53 = .ok (.invokevirtual 68, 3) := by decide +kernel
theorem dX2_feedBack_56 : decode cX2_feedBack 56 = .ok (.pop, 1) := by decide +kernel
theorem dX2_feedBack_57 : decode cX2_feedBack 57 = .ok (.iinc 1 1, 3) := by decide +kernel
theorem dX2_feedBack_60 : decode cX2_feedBack 60 = .ok (.iinc 2 1, 3) := by decide +kernel
theorem dX2_feedBack_63 : decode cX2_feedBack 63 = .ok (.goto (-39), 3) := by decide +kernel
theorem dX2_feedBack_66 : decode cX2_feedBack 66 = .ok (.iload_n 1, 1) := by decide +kernel
theorem dX2_feedBack_67 : decode cX2_feedBack 67 = .ok (.ireturn, 1) := by decide +kernel
theorem dX2_emptySplit_0 : decode cX2_emptySplit 0 = .ok (.iload_n 1, 1) := by decide +kernel
theorem dX2_emptySplit_1 : decode cX2_emptySplit 1 = .ok (.ifCond .lt 8, 3) := by decide +kernel
theorem dX2_emptySplit_4 : decode cX2_emptySplit 4 = .ok (.iload_n 1, 1) := by decide +kernel
theorem dX2_emptySplit_5 : decode cX2_emptySplit 5 = .ok (.iconst 3, 1) := by decide +kernel
theorem dX2_emptySplit_6 : decode cX2_emptySplit 6 = .ok (.if_icmp .le 5, 3) := by decide +kernel
theorem dX2_emptySplit_9 : decode cX2_emptySplit 9 = .ok (.iconst (-1), 1) := by decide +kernel
theorem dX2_emptySplit_10 : decode cX2_emptySplit 10 = .ok (.ireturn, 1) := by decide +kernel
theorem dX2_emptySplit_11 : decode cX2_emptySplit 11 = .ok (.aload_n 0, 1) := by decide +kernel
theorem dX2_emptySplit_12 : decode cX2_emptySplit 12 = .ok (.getfield 7, 3) := by decide +kernel
theorem dX2_emptySplit_15 : decode cX2_emptySplit 15 = .ok (.iload_n 1, 1) := by decide +kernel
theorem dX2_emptySplit_16 : decode cX2_emptySplit 16 = .ok (.iaload, 1) := by decide +kernel
theorem dX2_emptySplit_17 : decode cX2_emptySplit 17 = .ok (.istore_n 2, 1) := by decide +kernel
theorem dX2_emptySplit_18 : decode cX2_emptySplit 18 = .ok (.aload_n 0, 1) := by decide +kernel
theorem dX2_emptySplit_19 : decode cX2_emptySplit 19 = .ok (.getfield 7, 3) := by decide +kernel
theorem dX2_emptySplit_22 : decode cX2_emptySplit 22 = .ok (.iload_n 1, 1) := by decide +kernel
theorem dX2_emptySplit_23 : decode cX2_emptySplit 23 = .ok (.iconst 0, 1) := by decide +kernel
theorem dX2_emptySplit_24 : decode cX2_emptySplit 24 = .ok (.iastore, 1) := by decide +kernel
theorem dX2_emptySplit_25 : decode cX2_emptySplit 25 = .ok (.iload_n 2, 1) := by decide +kernel
theorem dX2_emptySplit_26 : decode cX2_emptySplit 26 = .ok (.ireturn, 1) := by decide +kernel
end
section
set_option maxRecDepth 100000
theorem dL_law_0 : decode cL_law 0 = .ok (.new 7, 3) := by decide +kernel
theorem dL_law_3 : decode cL_law 3 = .ok (.dup, 1) := by decide +kernel
theorem dL_law_4 : decode cL_law 4 = .ok (.aload_n 0, 1) := by decide +kernel
theorem dL_law_5 : decode cL_law 5 = .ok (.iconst 0, 1) := by decide +kernel
theorem dL_law_6 : decode cL_law 6 = .ok (.invokestatic 9, 3) := by decide +kernel
theorem dL_law_9 : decode cL_law 9 = .ok (.aload_n 0, 1) := by decide +kernel
theorem dL_law_10 : decode cL_law 10 = .ok (.iconst 1, 1) := by decide +kernel
theorem dL_law_11 : decode cL_law 11 = .ok (.invokestatic 9, 3) := by decide +kernel
theorem dL_law_14 : decode cL_law 14 = .ok (.invokespecial 15, 3) := by decide +kernel
theorem dL_law_17 : decode cL_law 17 = .ok (.astore_n 1, 1) := by decide +kernel
theorem dL_law_18 : decode cL_law 18 = .ok (.new 18, 3) := by decide +kernel
theorem dL_law_21 : decode cL_law 21 = .ok (.dup, 1) := by decide +kernel
theorem dL_law_22 : decode cL_law 22 = .ok (.aload_n 0, 1) := by decide +kernel
theorem dL_law_23 : decode cL_law 23 = .ok (.iconst 0, 1) := by decide +kernel
theorem dL_law_24 : decode cL_law 24 = .ok (.invokestatic 9, 3) := by decide +kernel
theorem dL_law_27 : decode cL_law 27 = .ok (.aload_n 0, 1) := by decide +kernel
theorem dL_law_28 : decode cL_law 28 = .ok (.iconst 1, 1) := by decide +kernel
theorem dL_law_29 : decode cL_law 29 = .ok (.invokestatic 9, 3) := by decide +kernel
theorem dL_law_32 : decode cL_law 32 = .ok (.invokespecial 20, 3) := by decide +kernel
theorem dL_law_35 : decode cL_law 35 = .ok (.astore_n 2, 1) := by decide +kernel
theorem dL_law_36 : decode cL_law 36 = .ok (.iconst 2, 1) := by decide +kernel
theorem dL_law_37 : decode cL_law 37 = .ok (.istore_n 3, 1) := by decide +kernel
theorem dL_law_38 : decode cL_law 38 = .ok (.iload_n 3, 1) := by decide +kernel
theorem dL_law_39 : decode cL_law 39 = .ok (.aload_n 0, 1) := by decide +kernel
theorem dL_law_40 : decode cL_law 40 = .ok (.arraylength, 1) := by decide +kernel
theorem dL_law_41 : decode cL_law 41 = .ok (.iconst 4, 1) := by decide +kernel
theorem dL_law_42 : decode cL_law 42 = .ok (.isub, 1) := by decide +kernel
theorem dL_law_43 : decode cL_law 43 = .ok (.if_icmp .gt 412, 3) := by decide +kernel
theorem dL_law_46 : decode cL_law 46 = .ok (.aload_n 0, 1) := by decide +kernel
theorem dL_law_47 : decode cL_law 47 = .ok (.iload_n 3, 1) := by decide +kernel
theorem dL_law_48 : decode cL_law 48 = .ok (.iaload, 1) := by decide +kernel
theorem dL_law_49 : decode cL_law 49 = .ok (.bipush 15, 2) := by decide +kernel
theorem dL_law_51 : decode cL_law 51 = .ok (.iand, 1) := by decide +kernel
theorem dL_law_52 : decode cL_law 52 = .ok (.tableswitch 397 0 10 #[60, 103, 146, 177, 236, 259, 282, 315, 348, 361, 374], 60) := by decide +kernel
theorem dL_law_112 : decode cL_law 112 = .ok (.aload_n 1, 1) := by decide +kernel
theorem dL_law_113 : decode cL_law 113 = .ok (.aload_n 0, 1) := by decide +kernel
theorem dL_law_114 : decode cL_law 114 = .ok (.iload_n 3, 1) := by decide +kernel
theorem dL_law_115 : decode cL_law 115 = .ok (.iconst 1, 1) := by decide +kernel
theorem dL_law_116 : decode cL_law 116 = .ok (.iadd, 1) := by decide +kernel
theorem dL_law_117 : decode cL_law 117 = .ok (.iaload, 1) := by decide +kernel
theorem dL_law_118 : decode cL_law 118 = .ok (.aload_n 0, 1) := by decide +kernel
theorem dL_law_119 : decode cL_law 119 = .ok (.iload_n 3, 1) := by decide +kernel
theorem dL_law_120 : decode cL_law 120 = .ok (.iconst 2, 1) := by decide +kernel
theorem dL_law_121 : decode cL_law 121 = .ok (.iadd, 1) := by decide +kernel
theorem dL_law_122 : decode cL_law 122 = .ok (.iaload, 1) := by decide +kernel
theorem dL_law_123 : decode cL_law 123 = .ok (.aload_n 0, 1) := by decide +kernel
theorem dL_law_124 : decode cL_law 124 = .ok (.iload_n 3, 1) := by decide +kernel
theorem dL_law_125 : decode cL_law 125 = .ok (.iconst 3, 1) := by decide +kernel
theorem dL_law_126 : decode cL_law 126 = .ok (.iadd, 1) := by decide +kernel
theorem dL_law_127 : decode cL_law 127 = .ok (.iaload, 1) := by decide +kernel
theorem dL_law_128 : decode cL_law 128 = .ok (.invokevirtual 21, 3) := by decide +kernel
theorem dL_law_131 : decode cL_law 131 = .ok (.aload_n 2, 1) := by decide +kernel
theorem dL_law_132 : decode cL_law 132 = .ok (.aload_n 0, 1) := by decide +kernel
theorem dL_law_133 : decode cL_law 133 = .ok (.iload_n 3, 1) := by decide +kernel
theorem dL_law_134 : decode cL_law 134 = .ok (.iconst 1, 1) := by decide +kernel
theorem dL_law_135 : decode cL_law 135 = .ok (.iadd, 1) := by decide +kernel
theorem dL_law_136 : decode cL_law 136 = .ok (.iaload, 1) := by decide +kernel
theorem dL_law_137 : decode cL_law 137 = .ok (.aload_n 0, 1) := by decide +kernel
theorem dL_law_138 : decode cL_law 138 = .ok (.iload_n 3, 1) := by decide +kernel
theorem dL_law_139 : decode cL_law 139 = .ok (.iconst 2, 1) := by decide +kernel
theorem dL_law_140 : decode cL_law 140 = .ok (.iadd, 1) := by decide +kernel
theorem dL_law_141 : decode cL_law 141 = .ok (.iaload, 1) := by decide +kernel
theorem dL_law_142 : decode cL_law 142 = .ok (.aload_n 0, 1) := by decide +kernel
theorem dL_law_143 : decode cL_law 143 = .ok (.iload_n 3, 1) := by decide +kernel
theorem dL_law_144 : decode cL_law 144 = .ok (.iconst 3, 1) := by decide +kernel
theorem dL_law_145 : decode cL_law 145 = .ok (.iadd, 1) := by decide +kernel
theorem dL_law_146 : decode cL_law 146 = .ok (.iaload, 1) := by decide +kernel
theorem dL_law_147 : decode cL_law 147 = .ok (.invokevirtual 25, 3) := by decide +kernel
theorem dL_law_150 : decode cL_law 150 = .ok (.if_icmp .eq 299, 3) := by decide +kernel
theorem dL_law_153 : decode cL_law 153 = .ok (.iconst 0, 1) := by decide +kernel
theorem dL_law_154 : decode cL_law 154 = .ok (.ireturn, 1) := by decide +kernel
theorem dL_law_155 : decode cL_law 155 = .ok (.aload_n 1, 1) := by decide +kernel
theorem dL_law_156 : decode cL_law 156 = .ok (.aload_n 0, 1) := by decide +kernel
theorem dL_law_157 : decode cL_law 157 = .ok (.iload_n 3, 1) := by decide +kernel
theorem dL_law_158 : decode cL_law 158 = .ok (.iconst 1, 1) := by decide +kernel
theorem dL_law_159 : decode cL_law 159 = .ok (.iadd, 1) := by decide +kernel
theorem dL_law_160 : decode cL_law 160 = .ok (.iaload, 1) := by decide +kernel
theorem dL_law_161 : decode cL_law 161 = .ok (.aload_n 0, 1) := by decide +kernel
theorem dL_law_162 : decode cL_law 162 = .ok (.iload_n 3, 1) := by decide +kernel
theorem dL_law_163 : decode cL_law 163 = .ok (.iconst 2, 1) := by decide +kernel
theorem dL_law_164 : decode cL_law 164 = .ok (.iadd, 1) := by decide +kernel
theorem dL_law_165 : decode cL_law 165 = .ok (.iaload, 1) := by decide +kernel
theorem dL_law_166 : decode cL_law 166 = .ok (.aload_n 0, 1) := by decide +kernel
theorem dL_law_167 : decode cL_law 167 = .ok (.iload_n 3, 1) := by decide +kernel
theorem dL_law_168 : decode cL_law 168 = .ok (.iconst 3, 1) := by decide +kernel
theorem dL_law_169 : decode cL_law 169 = .ok (.iadd, 1) := by decide +kernel
theorem dL_law_170 : decode cL_law 170 = .ok (.iaload, 1) := by decide +kernel
theorem dL_law_171 : decode cL_law 171 = .ok (.invokevirtual 26, 3) := by decide +kernel
theorem dL_law_174 : decode cL_law 174 = .ok (.aload_n 2, 1) := by decide +kernel
theorem dL_law_175 : decode cL_law 175 = .ok (.aload_n 0, 1) := by decide +kernel
theorem dL_law_176 : decode cL_law 176 = .ok (.iload_n 3, 1) := by decide +kernel
theorem dL_law_177 : decode cL_law 177 = .ok (.iconst 1, 1) := by decide +kernel
theorem dL_law_178 : decode cL_law 178 = .ok (.iadd, 1) := by decide +kernel
theorem dL_law_179 : decode cL_law 179 = .ok (.iaload, 1) := by decide +kernel
theorem dL_law_180 : decode cL_law 180 = .ok (.aload_n 0, 1) := by decide +kernel
theorem dL_law_181 : decode cL_law 181 = .ok (.iload_n 3, 1) := by decide +kernel
theorem dL_law_182 : decode cL_law 182 = .ok (.iconst 2, 1) := by decide +kernel
theorem dL_law_183 : decode cL_law 183 = .ok (.iadd, 1) := by decide +kernel
theorem dL_law_184 : decode cL_law 184 = .ok (.iaload, 1) := by decide +kernel
theorem dL_law_185 : decode cL_law 185 = .ok (.aload_n 0, 1) := by decide +kernel
theorem dL_law_186 : decode cL_law 186 = .ok (.iload_n 3, 1) := by decide +kernel
theorem dL_law_187 : decode cL_law 187 = .ok (.iconst 3, 1) := by decide +kernel
theorem dL_law_188 : decode cL_law 188 = .ok (.iadd, 1) := by decide +kernel
theorem dL_law_189 : decode cL_law 189 = .ok (.iaload, 1) := by decide +kernel
theorem dL_law_190 : decode cL_law 190 = .ok (.invokevirtual 30, 3) := by decide +kernel
theorem dL_law_193 : decode cL_law 193 = .ok (.if_icmp .eq 256, 3) := by decide +kernel
theorem dL_law_196 : decode cL_law 196 = .ok (.iconst 0, 1) := by decide +kernel
theorem dL_law_197 : decode cL_law 197 = .ok (.ireturn, 1) := by decide +kernel
theorem dL_law_198 : decode cL_law 198 = .ok (.aload_n 1, 1) := by decide +kernel
theorem dL_law_199 : decode cL_law 199 = .ok (.aload_n 0, 1) := by decide +kernel
theorem dL_law_200 : decode cL_law 200 = .ok (.iload_n 3, 1) := by decide +kernel
theorem dL_law_201 : decode cL_law 201 = .ok (.iconst 1, 1) := by decide +kernel
theorem dL_law_202 : decode cL_law 202 = .ok (.iadd, 1) := by decide +kernel
theorem dL_law_203 : decode cL_law 203 = .ok (.iaload, 1) := by decide +kernel
theorem dL_law_204 : decode cL_law 204 = .ok (.aload_n 0, 1) := by decide +kernel
theorem dL_law_205 : decode cL_law 205 = .ok (.iload_n 3, 1) := by decide +kernel
theorem dL_law_206 : decode cL_law 206 = .ok (.iconst 2, 1) := by decide +kernel
theorem dL_law_207 : decode cL_law 207 = .ok (.iadd, 1) := by decide +kernel
theorem dL_law_208 : decode cL_law 208 = .ok (.iaload, 1) := by decide +kernel
theorem dL_law_209 : decode cL_law 209 = .ok (.invokevirtual 31, 3) := by decide +kernel
theorem dL_law_212 : decode cL_law 212 = .ok (.aload_n 2, 1) := by decide +kernel
theorem dL_law_213 : decode cL_law 213 = .ok (.aload_n 0, 1) := by decide +kernel
theorem dL_law_214 : decode cL_law 214 = .ok (.iload_n 3, 1) := by decide +kernel
theorem dL_law_215 : decode cL_law 215 = .ok (.iconst 1, 1) := by decide +kernel
theorem dL_law_216 : decode cL_law 216 = .ok (.iadd, 1) := by decide +kernel
theorem dL_law_217 : decode cL_law 217 = .ok (.iaload, 1) := by decide +kernel
theorem dL_law_218 : decode cL_law 218 = .ok (.aload_n 0, 1) := by decide +kernel
theorem dL_law_219 : decode cL_law 219 = .ok (.iload_n 3, 1) := by decide +kernel
theorem dL_law_220 : decode cL_law 220 = .ok (.iconst 2, 1) := by decide +kernel
theorem dL_law_221 : decode cL_law 221 = .ok (.iadd, 1) := by decide +kernel
theorem dL_law_222 : decode cL_law 222 = .ok (.iaload, 1) := by decide +kernel
theorem dL_law_223 : decode cL_law 223 = .ok (.invokevirtual 34, 3) := by decide +kernel
theorem dL_law_226 : decode cL_law 226 = .ok (.goto 223, 3) := by decide +kernel
theorem dL_law_229 : decode cL_law 229 = .ok (.aload_n 1, 1) := by decide +kernel
theorem dL_law_230 : decode cL_law 230 = .ok (.aload_n 0, 1) := by decide +kernel
theorem dL_law_231 : decode cL_law 231 = .ok (.iload_n 3, 1) := by decide +kernel
theorem dL_law_232 : decode cL_law 232 = .ok (.iconst 1, 1) := by decide +kernel
theorem dL_law_233 : decode cL_law 233 = .ok (.iadd, 1) := by decide +kernel
theorem dL_law_234 : decode cL_law 234 = .ok (.iaload, 1) := by decide +kernel
theorem dL_law_235 : decode cL_law 235 = .ok (.ifCond .eq 7, 3) := by decide +kernel
theorem dL_law_238 : decode cL_law 238 = .ok (.iconst 1, 1) := by decide +kernel
theorem dL_law_239 : decode cL_law 239 = .ok (.goto 4, 3) := by decide +kernel
theorem dL_law_242 : decode cL_law 242 = .ok (.iconst 0, 1) := by decide +kernel
theorem dL_law_243 : decode cL_law 243 = .ok (.aload_n 0, 1) := by decide +kernel
theorem dL_law_244 : decode cL_law 244 = .ok (.iload_n 3, 1) := by decide +kernel
theorem dL_law_245 : decode cL_law 245 = .ok (.iconst 2, 1) := by decide +kernel
theorem dL_law_246 : decode cL_law 246 = .ok (.iadd, 1) := by decide +kernel
theorem dL_law_247 : decode cL_law 247 = .ok (.iaload, 1) := by decide +kernel
theorem dL_law_248 : decode cL_law 248 = .ok (.aload_n 0, 1) := by decide +kernel
theorem dL_law_249 : decode cL_law 249 = .ok (.iload_n 3, 1) := by decide +kernel
theorem dL_law_250 : decode cL_law 250 = .ok (.iconst 3, 1) := by decide +kernel
theorem dL_law_251 : decode cL_law 251 = .ok (.iadd, 1) := by decide +kernel
theorem dL_law_252 : decode cL_law 252 = .ok (.iaload, 1) := by decide +kernel
theorem dL_law_253 : decode cL_law 253 = .ok (.invokevirtual 35, 3) := by decide +kernel
theorem dL_law_256 : decode cL_law 256 = .ok (.aload_n 2, 1) := by decide +kernel
theorem dL_law_257 : decode cL_law 257 = .ok (.aload_n 0, 1) := by decide +kernel
theorem dL_law_258 : decode cL_law 258 = .ok (.iload_n 3, 1) := by decide +kernel
theorem dL_law_259 : decode cL_law 259 = .ok (.iconst 1, 1) := by decide +kernel
theorem dL_law_260 : decode cL_law 260 = .ok (.iadd, 1) := by decide +kernel
theorem dL_law_261 : decode cL_law 261 = .ok (.iaload, 1) := by decide +kernel
theorem dL_law_262 : decode cL_law 262 = .ok (.ifCond .eq 7, 3) := by decide +kernel
theorem dL_law_265 : decode cL_law 265 = .ok (.iconst 1, 1) := by decide +kernel
theorem dL_law_266 : decode cL_law 266 = .ok (.goto 4, 3) := by decide +kernel
theorem dL_law_269 : decode cL_law 269 = .ok (.iconst 0, 1) := by decide +kernel
theorem dL_law_270 : decode cL_law 270 = .ok (.aload_n 0, 1) := by decide +kernel
theorem dL_law_271 : decode cL_law 271 = .ok (.iload_n 3, 1) := by decide +kernel
theorem dL_law_272 : decode cL_law 272 = .ok (.iconst 2, 1) := by decide +kernel
theorem dL_law_273 : decode cL_law 273 = .ok (.iadd, 1) := by decide +kernel
theorem dL_law_274 : decode cL_law 274 = .ok (.iaload, 1) := by decide +kernel
theorem dL_law_275 : decode cL_law 275 = .ok (.aload_n 0, 1) := by decide +kernel
theorem dL_law_276 : decode cL_law 276 = .ok (.iload_n 3, 1) := by decide +kernel
theorem dL_law_277 : decode cL_law 277 = .ok (.iconst 3, 1) := by decide +kernel
theorem dL_law_278 : decode cL_law 278 = .ok (.iadd, 1) := by decide +kernel
theorem dL_law_279 : decode cL_law 279 = .ok (.iaload, 1) := by decide +kernel
theorem dL_law_280 : decode cL_law 280 = .ok (.invokevirtual 39, 3) := by decide +kernel
theorem dL_law_283 : decode cL_law 283 = .ok (.if_icmp .eq 166, 3) := by decide +kernel
theorem dL_law_286 : decode cL_law 286 = .ok (.iconst 0, 1) := by decide +kernel
theorem dL_law_287 : decode cL_law 287 = .ok (.ireturn, 1) := by decide +kernel
theorem dL_law_288 : decode cL_law 288 = .ok (.aload_n 1, 1) := by decide +kernel
theorem dL_law_289 : decode cL_law 289 = .ok (.aload_n 0, 1) := by decide +kernel
theorem dL_law_290 : decode cL_law 290 = .ok (.iload_n 3, 1) := by decide +kernel
theorem dL_law_291 : decode cL_law 291 = .ok (.iconst 1, 1) := by decide +kernel
theorem dL_law_292 : decode cL_law 292 = .ok (.iadd, 1) := by decide +kernel
theorem dL_law_293 : decode cL_law 293 = .ok (.iaload, 1) := by decide +kernel
theorem dL_law_294 : decode cL_law 294 = .ok (.invokevirtual 40, 3) := by decide +kernel
theorem dL_law_297 : decode cL_law 297 = .ok (.aload_n 2, 1) := by decide +kernel
theorem dL_law_298 : decode cL_law 298 = .ok (.aload_n 0, 1) := by decide +kernel
theorem dL_law_299 : decode cL_law 299 = .ok (.iload_n 3, 1) := by decide +kernel
theorem dL_law_300 : decode cL_law 300 = .ok (.iconst 1, 1) := by decide +kernel
theorem dL_law_301 : decode cL_law 301 = .ok (.iadd, 1) := by decide +kernel
theorem dL_law_302 : decode cL_law 302 = .ok (.iaload, 1) := by decide +kernel
theorem dL_law_303 : decode cL_law 303 = .ok (.invokevirtual 44, 3) := by decide +kernel
theorem dL_law_306 : decode cL_law 306 = .ok (.if_icmp .eq 143, 3) := by decide +kernel
theorem dL_law_309 : decode cL_law 309 = .ok (.iconst 0, 1) := by decide +kernel
theorem dL_law_310 : decode cL_law 310 = .ok (.ireturn, 1) := by decide +kernel
theorem dL_law_311 : decode cL_law 311 = .ok (.aload_n 1, 1) := by decide +kernel
theorem dL_law_312 : decode cL_law 312 = .ok (.aload_n 0, 1) := by decide +kernel
theorem dL_law_313 : decode cL_law 313 = .ok (.iload_n 3, 1) := by decide +kernel
theorem dL_law_314 : decode cL_law 314 = .ok (.iconst 1, 1) := by decide +kernel
theorem dL_law_315 : decode cL_law 315 = .ok (.iadd, 1) := by decide +kernel
theorem dL_law_316 : decode cL_law 316 = .ok (.iaload, 1) := by decide +kernel
theorem dL_law_317 : decode cL_law 317 = .ok (.invokevirtual 45, 3) := by decide +kernel
theorem dL_law_320 : decode cL_law 320 = .ok (.aload_n 2, 1) := by decide +kernel
theorem dL_law_321 : decode cL_law 321 = .ok (.aload_n 0, 1) := by decide +kernel
theorem dL_law_322 : decode cL_law 322 = .ok (.iload_n 3, 1) := by decide +kernel
theorem dL_law_323 : decode cL_law 323 = .ok (.iconst 1, 1) := by decide +kernel
theorem dL_law_324 : decode cL_law 324 = .ok (.iadd, 1) := by decide +kernel
theorem dL_law_325 : decode cL_law 325 = .ok (.iaload, 1) := by decide +kernel
theorem dL_law_326 : decode cL_law 326 = .ok (.invokevirtual 48, 3) := by decide +kernel
theorem dL_law_329 : decode cL_law 329 = .ok (.if_icmp .eq 120, 3) := by decide +kernel
theorem dL_law_332 : decode cL_law 332 = .ok (.iconst 0, 1) := by decide +kernel
theorem dL_law_333 : decode cL_law 333 = .ok (.ireturn, 1) := by decide +kernel
theorem dL_law_334 : decode cL_law 334 = .ok (.aload_n 1, 1) := by decide +kernel
theorem dL_law_335 : decode cL_law 335 = .ok (.aload_n 0, 1) := by decide +kernel
theorem dL_law_336 : decode cL_law 336 = .ok (.iload_n 3, 1) := by decide +kernel
theorem dL_law_337 : decode cL_law 337 = .ok (.iconst 1, 1) := by decide +kernel
theorem dL_law_338 : decode cL_law 338 = .ok (.iadd, 1) := by decide +kernel
theorem dL_law_339 : decode cL_law 339 = .ok (.iaload, 1) := by decide +kernel
theorem dL_law_340 : decode cL_law 340 = .ok (.aload_n 0, 1) := by decide +kernel
theorem dL_law_341 : decode cL_law 341 = .ok (.iload_n 3, 1) := by decide +kernel
theorem dL_law_342 : decode cL_law 342 = .ok (.iconst 2, 1) := by decide +kernel
theorem dL_law_343 : decode cL_law 343 = .ok (.iadd, 1) := by decide +kernel
theorem dL_law_344 : decode cL_law 344 = .ok (.iaload, 1) := by decide +kernel
theorem dL_law_345 : decode cL_law 345 = .ok (.invokevirtual 49, 3) := by decide +kernel
theorem dL_law_348 : decode cL_law 348 = .ok (.aload_n 2, 1) := by decide +kernel
theorem dL_law_349 : decode cL_law 349 = .ok (.aload_n 0, 1) := by decide +kernel
theorem dL_law_350 : decode cL_law 350 = .ok (.iload_n 3, 1) := by decide +kernel
theorem dL_law_351 : decode cL_law 351 = .ok (.iconst 1, 1) := by decide +kernel
theorem dL_law_352 : decode cL_law 352 = .ok (.iadd, 1) := by decide +kernel
theorem dL_law_353 : decode cL_law 353 = .ok (.iaload, 1) := by decide +kernel
theorem dL_law_354 : decode cL_law 354 = .ok (.aload_n 0, 1) := by decide +kernel
theorem dL_law_355 : decode cL_law 355 = .ok (.iload_n 3, 1) := by decide +kernel
theorem dL_law_356 : decode cL_law 356 = .ok (.iconst 2, 1) := by decide +kernel
theorem dL_law_357 : decode cL_law 357 = .ok (.iadd, 1) := by decide +kernel
theorem dL_law_358 : decode cL_law 358 = .ok (.iaload, 1) := by decide +kernel
theorem dL_law_359 : decode cL_law 359 = .ok (.invokevirtual 53, 3) := by decide +kernel
theorem dL_law_362 : decode cL_law 362 = .ok (.if_icmp .eq 87, 3) := by decide +kernel
theorem dL_law_365 : decode cL_law 365 = .ok (.iconst 0, 1) := by decide +kernel
theorem dL_law_366 : decode cL_law 366 = .ok (.ireturn, 1) := by decide +kernel
theorem dL_law_367 : decode cL_law 367 = .ok (.aload_n 1, 1) := by decide +kernel
theorem dL_law_368 : decode cL_law 368 = .ok (.aload_n 0, 1) := by decide +kernel
theorem dL_law_369 : decode cL_law 369 = .ok (.iload_n 3, 1) := by decide +kernel
theorem dL_law_370 : decode cL_law 370 = .ok (.iconst 1, 1) := by decide +kernel
theorem dL_law_371 : decode cL_law 371 = .ok (.iadd, 1) := by decide +kernel
theorem dL_law_372 : decode cL_law 372 = .ok (.iaload, 1) := by decide +kernel
theorem dL_law_373 : decode cL_law 373 = .ok (.aload_n 0, 1) := by decide +kernel
theorem dL_law_374 : decode cL_law 374 = .ok (.iload_n 3, 1) := by decide +kernel
theorem dL_law_375 : decode cL_law 375 = .ok (.iconst 2, 1) := by decide +kernel
theorem dL_law_376 : decode cL_law 376 = .ok (.iadd, 1) := by decide +kernel
theorem dL_law_377 : decode cL_law 377 = .ok (.iaload, 1) := by decide +kernel
theorem dL_law_378 : decode cL_law 378 = .ok (.invokevirtual 54, 3) := by decide +kernel
theorem dL_law_381 : decode cL_law 381 = .ok (.aload_n 2, 1) := by decide +kernel
theorem dL_law_382 : decode cL_law 382 = .ok (.aload_n 0, 1) := by decide +kernel
theorem dL_law_383 : decode cL_law 383 = .ok (.iload_n 3, 1) := by decide +kernel
theorem dL_law_384 : decode cL_law 384 = .ok (.iconst 1, 1) := by decide +kernel
theorem dL_law_385 : decode cL_law 385 = .ok (.iadd, 1) := by decide +kernel
theorem dL_law_386 : decode cL_law 386 = .ok (.iaload, 1) := by decide +kernel
theorem dL_law_387 : decode cL_law 387 = .ok (.aload_n 0, 1) := by decide +kernel
theorem dL_law_388 : decode cL_law 388 = .ok (.iload_n 3, 1) := by decide +kernel
theorem dL_law_389 : decode cL_law 389 = .ok (.iconst 2, 1) := by decide +kernel
theorem dL_law_390 : decode cL_law 390 = .ok (.iadd, 1) := by decide +kernel
theorem dL_law_391 : decode cL_law 391 = .ok (.iaload, 1) := by decide +kernel
theorem dL_law_392 : decode cL_law 392 = .ok (.invokevirtual 57, 3) := by decide +kernel
theorem dL_law_395 : decode cL_law 395 = .ok (.if_icmp .eq 54, 3) := by decide +kernel
theorem dL_law_398 : decode cL_law 398 = .ok (.iconst 0, 1) := by decide +kernel
theorem dL_law_399 : decode cL_law 399 = .ok (.ireturn, 1) := by decide +kernel
theorem dL_law_400 : decode cL_law 400 = .ok (.aload_n 1, 1) := by decide +kernel
theorem dL_law_401 : decode cL_law 401 = .ok (.invokevirtual 58, 3) := by decide +kernel
theorem dL_law_404 : decode cL_law 404 = .ok (.aload_n 2, 1) := by decide +kernel
theorem dL_law_405 : decode cL_law 405 = .ok (.invokevirtual 62, 3) := by decide +kernel
theorem dL_law_408 : decode cL_law 408 = .ok (.if_icmp .eq 41, 3) := by decide +kernel
theorem dL_law_411 : decode cL_law 411 = .ok (.iconst 0, 1) := by decide +kernel
theorem dL_law_412 : decode cL_law 412 = .ok (.ireturn, 1) := by decide +kernel
theorem dL_law_413 : decode cL_law 413 = .ok (.aload_n 1, 1) := by decide +kernel
theorem dL_law_414 : decode cL_law 414 = .ok (.invokevirtual 63, 3) := by decide +kernel
theorem dL_law_417 : decode cL_law 417 = .ok (.aload_n 2, 1) := by decide +kernel
theorem dL_law_418 : decode cL_law 418 = .ok (.invokevirtual 66, 3) := by decide +kernel
theorem dL_law_421 : decode cL_law 421 = .ok (.if_icmp .eq 28, 3) := by decide +kernel
theorem dL_law_424 : decode cL_law 424 = .ok (.iconst 0, 1) := by decide +kernel
theorem dL_law_425 : decode cL_law 425 = .ok (.ireturn, 1) := by decide +kernel
theorem dL_law_426 : decode cL_law 426 = .ok (.aload_n 1, 1) := by decide +kernel
theorem dL_law_427 : decode cL_law 427 = .ok (.aload_n 0, 1) := by decide +kernel
theorem dL_law_428 : decode cL_law 428 = .ok (.iload_n 3, 1) := by decide +kernel
theorem dL_law_429 : decode cL_law 429 = .ok (.iconst 1, 1) := by decide +kernel
theorem dL_law_430 : decode cL_law 430 = .ok (.iadd, 1) := by decide +kernel
theorem dL_law_431 : decode cL_law 431 = .ok (.iaload, 1) := by decide +kernel
theorem dL_law_432 : decode cL_law 432 = .ok (.invokevirtual 67, 3) := by decide +kernel
theorem dL_law_435 : decode cL_law 435 = .ok (.aload_n 2, 1) := by decide +kernel
theorem dL_law_436 : decode cL_law 436 = .ok (.aload_n 0, 1) := by decide +kernel
theorem dL_law_437 : decode cL_law 437 = .ok (.iload_n 3, 1) := by decide +kernel
theorem dL_law_438 : decode cL_law 438 = .ok (.iconst 1, 1) := by decide +kernel
theorem dL_law_439 : decode cL_law 439 = .ok (.iadd, 1) := by decide +kernel
theorem dL_law_440 : decode cL_law 440 = .ok (.iaload, 1) := by decide +kernel
theorem dL_law_441 : decode cL_law 441 = .ok (.invokevirtual 70, 3) := by decide +kernel
theorem dL_law_444 : decode cL_law 444 = .ok (.if_icmp .eq 5, 3) := by decide +kernel
theorem dL_law_447 : decode cL_law 447 = .ok (.iconst 0, 1) := by decide +kernel
theorem dL_law_448 : decode cL_law 448 = .ok (.ireturn, 1) := by decide +kernel
theorem dL_law_449 : decode cL_law 449 = .ok (.iinc 3 4, 3) := by decide +kernel
theorem dL_law_452 : decode cL_law 452 = .ok (.goto (-414), 3) := by decide +kernel
theorem dL_law_455 : decode cL_law 455 = .ok (.iconst 1, 1) := by decide +kernel
theorem dL_law_456 : decode cL_law 456 = .ok (.ireturn, 1) := by decide +kernel
end
section
set_option maxRecDepth 100000
set_option linter.unusedVariables false
/-! THE GATE. An object of one of the two kinds (K) with int fields fi k and arrays ar k, at addresses that are variables. G pc lv st fi ar: the machine, at pc with locals lv (by place; .null: nothing known), operand stack st, fields fi, arrays ar, comes to the method's end with its Post. -/
abbrev vwCl : List vw_C := [(RX1, TX1, 28), (RX2, TX2, 13)]
abbrev mr_St : Type := (Nat → Int32) × (Nat → Nat → Int32)
abbrev mr_Kd : Type := String × u_T × Nat × Nat × List (Nat × Nat × FieldType)
abbrev mr_GT : Type := Nat → List Value → List Value → (Nat → Int32) → (Nat → Nat → Int32) → Prop
abbrev mr_PT : Type := Int32 → (Nat → Int32) → (Nat → Nat → Int32) → Prop
def mr_isA (K : mr_Kd) (k : Nat) : Bool := K.2.2.2.2.any (fun a => a.1 == k)
def mr_fld (K : mr_Kd) (ad : Nat → Nat) (fi : Nat → Int32) (k : Nat) : Value := if mr_isA K k then Value.ref (ad k) else Value.int (fi k)
def mr_fs (K : mr_Kd) (ad : Nat → Nat) (fi : Nat → Int32) : List Value := (List.range K.2.2.1).map (mr_fld K ad fi)
def mr_arw (cA : Nat → ClassId) (ad : Nat → Nat) (ar : Nat → Nat → Int32) (a : Nat × Nat × FieldType) : Nat × va_E := (ad a.1, .inl (cA a.1, a.2.1, .inl (ar a.1)))
def mr_ws (K : mr_Kd) (h : Nat) (ad : Nat → Nat) (cA : Nat → ClassId) (fi : Nat → Int32) (ar : Nat → Nat → Int32) : va_W := (h, .inr (K.2.2.2.1, mr_fs K ad fi)) :: K.2.2.2.2.map (mr_arw cA ad ar)
def mr_tys (K : mr_Kd) (cA : Nat → ClassId) : List (ClassId × FieldType) := K.2.2.2.2.map (fun a => (cA a.1, a.2.2))
def ua (ar : Nat → Nat → Int32) (k i : Nat) (x : Int32) : Nat → Nat → Int32 := fun a => if a = k then upd (ar a) i x else ar a
def mr_ok (K : mr_Kd) : Prop := (∀ w ∈ u_ws K.1 K.2.1 K.2.2.1, w ∈ lw_all) ∧ vwCl[K.2.2.2.1]? = some (K.1, K.2.1, K.2.2.1) ∧ (∃ ty0 : Nat → FieldType, ∀ k, k < K.2.2.1 → parseFieldDescriptor (K.2.1 k).2.2.1 = some (ty0 k)) ∧ (∀ a, a < K.2.2.1 → ∀ b, b < K.2.2.1 → a ≠ b → (K.2.1 a).2.1 ≠ (K.2.1 b).2.1) ∧ (∀ (i j : Nat) (a b : Nat × Nat × FieldType), K.2.2.2.2[i]? = some a → K.2.2.2.2[j]? = some b → a.1 = b.1 → i = j)
def mr_nn (v : Value) : Bool := match v with
  | .null => false
  | _ => true
def mr_has (ls : Array Slot) (nL : Nat) (lv : List Value) : Prop := lv.length = nL ∧ ls.size = nL ∧ lv_wf ls ∧ (∀ (i : Nat) (v : Value), lv[i]? = some v → mr_nn v = true → ls[i]? = some (.val v)) ∧ ∀ v ∈ lv, v.category = 1
def mr_ix (lv : List Value) : List (Nat × Value) := (List.range lv.length).filterMap (fun i => (lv[i]?).bind (fun v => if mr_nn v then some (i, v) else none))
theorem mr_ix_mem {lv : List Value} {q : Nat × Value} : q ∈ mr_ix lv ↔ lv[q.1]? = some q.2 ∧ mr_nn q.2 = true := by
  obtain ⟨i, v⟩ := q
  unfold mr_ix
  rw [List.mem_filterMap]
  constructor
  · rintro ⟨j, hj, he⟩
    cases hv : lv[j]? with
    | none => rw [hv] at he; cases he
    | some w =>
      rw [hv] at he
      simp only [Option.bind_some] at he
      split at he
      · next hn =>
        simp only [Option.some.injEq, Prod.mk.injEq] at he
        obtain ⟨e1, e2⟩ := he
        subst e1; subst e2
        exact ⟨hv, hn⟩
      · cases he
  · rintro ⟨h1, h2⟩
    refine ⟨i, List.mem_range.mpr (List.getElem?_eq_some_iff.mp h1).1, ?_⟩
    have h1 : lv[i]? = some v := h1
    have h2 : mr_nn v = true := h2
    rw [h1]
    simp [h2]
theorem mr_has_lv {ls : Array Slot} {nL : Nat} {lv : List Value} (h : mr_has ls nL lv) : lv_has ls nL (mr_ix lv) := ⟨h.2.1, h.2.2.1, fun q hq => h.2.2.2.1 q.1 q.2 (mr_ix_mem.mp hq).1 (mr_ix_mem.mp hq).2⟩
theorem mr_has_set {ls ls' : Array Slot} {nL i : Nat} {v : Value} {lv : List Value} (h : mr_has ls nL lv) (hv : v.category = 1) (h' : lv_has ls' nL ((i, v) :: (mr_ix lv).filter (fun q => !(q.1 == i) && !(q.1 + 1 == i && q.2.category == 2)))) : mr_has ls' nL (lv.set i v) := by
  refine ⟨by rw [List.length_set]; exact h.1, h'.1, h'.2.1, fun j w hj hn => ?_, fun w hw => ?_⟩
  · by_cases hji : j = i
    · subst hji
      have hlt : j < (lv.set j v).length := (List.getElem?_eq_some_iff.mp hj).1
      rw [List.length_set] at hlt
      rw [List.getElem?_set_self hlt] at hj
      cases hj
      exact h'.2.2 (j, v) List.mem_cons_self
    · rw [List.getElem?_set_ne (Ne.symm hji)] at hj
      refine h'.2.2 (j, w) (List.mem_cons_of_mem _ (List.mem_filter.mpr ⟨mr_ix_mem.mpr ⟨hj, hn⟩, ?_⟩))
      have hc : w.category = 1 := h.2.2.2.2 w (List.mem_of_getElem? hj)
      simp [hji, hc]
  · rcases List.mem_or_eq_of_mem_set hw with h1 | h1
    · exact h.2.2.2.2 w h1
    · rw [h1]; exact hv
def mr_B (K : mr_Kd) (h : Nat) (ad : Nat → Nat) (cA : Nat → ClassId) (D : va_G) (A : Nat → Prop) (u : mr_St) (t : State) : Prop := va_P D vwCl (mr_ws K h ad cA u.1 u.2) t.heap ∧ va_K D vwCl (mr_tys K cA) t ∧ va_D A (mr_ws K h ad cA u.1 u.2)
def mr_Q (ret : Option FieldType) (Post : mr_PT) (B : mr_St → State → Prop) (A : Nat → Prop) : Array Value → State → Outcome → State → Prop := match ret with
  | none => va_Qv (fun u : mr_St => Post 0 u.1 u.2) B A
  | some _ => va_Qi (fun (r : Int32) (u : mr_St) => Post r u.1 u.2) B A
def mr_G (K : mr_Kd) (nL : Nat) (ret : Option FieldType) (Post : mr_PT) (h : Nat) (ad : Nat → Nat) (p : Program) (l : Launch) (e : Env) (R : Room) (s : State) (m : MethodId) (args : Array Value) (below : List Frame) (meth : Method) (c : Code) (A : Nat → Prop) (D : va_G) (cA : Nat → ClassId) : mr_GT := fun pc lv st fi ar => ∀ (ls : Array Slot) (H : Heap) (locs : List Loc), mr_has ls nL lv → va_P D vwCl (mr_ws K h ad cA fi ar) H → va_S A s.heap H locs → W p l e R s m args below meth c H locs 0 0 (MQ below (mr_Q ret Post (mr_B K h ad cA D A) A) args s 0 0 A) (F0 m pc ls st)
def mr_Cl (K : mr_Kd) (cc : ByteArray) (nL : Nat) (ret : Option FieldType) (fr lo : Nat) (Post : mr_PT) (h : Nat) (ad : Nat → Nat) (G : mr_GT) : Prop := ∃ (p : Program) (l : Launch) (e : Env) (R : Room) (s : State) (m : MethodId) (args : Array Value) (below : List Frame) (meth : Method) (c : Code) (A : Nat → Prop) (D : va_G) (cA : Nat → ClassId), mr_ok K ∧ p.tables.exec = Jvm.exec ∧ c.code = cc ∧ meth.sig.returnType = ret ∧ meth.locks = false ∧ c.maxLocals = nL ∧ s.vm.findClass K.1 = some m.cls ∧ (∀ w ∈ lw_all, w.before args s = true) ∧ va_K D vwCl (mr_tys K cA) s ∧ (∀ fi ar, va_D A (mr_ws K h ad cA fi ar)) ∧ (∀ q, s.heap.size ≤ q → A q) ∧ R = { frames := fr, cells := 0, slots := 0, locals := lo } ∧ G = mr_G K nL ret Post h ad p l e R s m args below meth c A D cA
/-! the world's places -/
theorem mr_ws_0 {K : mr_Kd} {h : Nat} {ad : Nat → Nat} {cA : Nat → ClassId} {fi : Nat → Int32} {ar : Nat → Nat → Int32} : (mr_ws K h ad cA fi ar)[0]? = some (h, .inr (K.2.2.2.1, mr_fs K ad fi)) := rfl
theorem mr_ws_s {K : mr_Kd} {h : Nat} {ad : Nat → Nat} {cA : Nat → ClassId} {fi : Nat → Int32} {ar : Nat → Nat → Int32} {j k n : Nat} {ty : FieldType} (hj : K.2.2.2.2[j]? = some (k, n, ty)) : (mr_ws K h ad cA fi ar)[j + 1]? = some (ad k, .inl (cA k, n, .inl (ar k))) := by
  unfold mr_ws
  rw [List.getElem?_cons_succ, List.getElem?_map, hj]
  rfl
theorem mr_tys_j {K : mr_Kd} {cA : Nat → ClassId} {j k n : Nat} {ty : FieldType} (hj : K.2.2.2.2[j]? = some (k, n, ty)) : (mr_tys K cA)[j]? = some (cA k, ty) := by
  unfold mr_tys
  rw [List.getElem?_map, hj]
  rfl
theorem mr_fs_k {K : mr_Kd} {ad : Nat → Nat} {fi : Nat → Int32} {k : Nat} (hk : k < K.2.2.1) : (mr_fs K ad fi)[k]? = some (mr_fld K ad fi k) := by
  unfold mr_fs
  rw [List.getElem?_map, List.getElem?_range hk]
  rfl
theorem mr_fs_set {K : mr_Kd} {ad : Nat → Nat} {fi : Nat → Int32} {k : Nat} {x : Int32} (hk : k < K.2.2.1) (hi : mr_isA K k = false) : (mr_fs K ad fi).set k (.int x) = mr_fs K ad (upd fi k x) := by
  apply List.ext_getElem?
  intro j
  by_cases hj : j = k
  · subst hj
    have hl : j < (mr_fs K ad fi).length := by simp [mr_fs, hk]
    rw [List.getElem?_set_self hl, mr_fs_k hk]
    simp [mr_fld, hi, upd]
  · rw [List.getElem?_set_ne (Ne.symm hj)]
    by_cases hn : j < K.2.2.1
    · rw [mr_fs_k hn, mr_fs_k hn]
      simp [mr_fld, upd, hj]
    · rw [List.getElem?_eq_none (by simp [mr_fs]; omega), List.getElem?_eq_none (by simp [mr_fs]; omega)]
theorem mr_ws_put {K : mr_Kd} {h : Nat} {ad : Nat → Nat} {cA : Nat → ClassId} {fi : Nat → Int32} {ar : Nat → Nat → Int32} {k : Nat} {x : Int32} (hk : k < K.2.2.1) (hi : mr_isA K k = false) : (mr_ws K h ad cA fi ar).set 0 (h, .inr (K.2.2.2.1, (mr_fs K ad fi).set k (.int x))) = mr_ws K h ad cA (upd fi k x) ar := by
  rw [mr_fs_set hk hi]
  rfl
theorem mr_ws_ast {K : mr_Kd} (hok : mr_ok K) {h : Nat} {ad : Nat → Nat} {cA : Nat → ClassId} {fi : Nat → Int32} {ar : Nat → Nat → Int32} {j k n i : Nat} {ty : FieldType} {x : Int32} (hj : K.2.2.2.2[j]? = some (k, n, ty)) : (mr_ws K h ad cA fi ar).set (j + 1) (ad k, .inl (cA k, n, .inl (upd (ar k) i x))) = mr_ws K h ad cA fi (ua ar k i x) := by
  show (h, _) :: (K.2.2.2.2.map (mr_arw cA ad ar)).set j _ = (h, _) :: K.2.2.2.2.map (mr_arw cA ad (ua ar k i x))
  congr 1
  apply List.ext_getElem?
  intro a
  by_cases ha : a = j
  · subst ha
    have hl : a < (K.2.2.2.2.map (mr_arw cA ad ar)).length := by rw [List.length_map]; exact (List.getElem?_eq_some_iff.mp hj).1
    rw [List.getElem?_set_self hl, List.getElem?_map, hj]
    simp [mr_arw, ua]
  · rw [List.getElem?_set_ne (Ne.symm ha), List.getElem?_map, List.getElem?_map]
    cases hb : K.2.2.2.2[a]? with
    | none => rfl
    | some b =>
      have hne : b.1 ≠ k := fun e => ha (hok.2.2.2.2 a j b (k, n, ty) hb hj e)
      simp [mr_arw, ua, hne]
theorem mr_D_any {K : mr_Kd} {h : Nat} {ad : Nat → Nat} {cA : Nat → ClassId} {fi fi' : Nat → Int32} {ar ar' : Nat → Nat → Int32} {A : Nat → Prop} (hD : va_D A (mr_ws K h ad cA fi ar)) : va_D A (mr_ws K h ad cA fi' ar') := by
  have key : ∀ (j : Nat) (q : Nat × va_E), (mr_ws K h ad cA fi' ar')[j]? = some q → ∃ q0, (mr_ws K h ad cA fi ar)[j]? = some q0 ∧ q0.1 = q.1 := by
    intro j q hq
    cases j with
    | zero => cases hq; exact ⟨_, rfl, rfl⟩
    | succ j =>
      unfold mr_ws at hq ⊢
      rw [List.getElem?_cons_succ, List.getElem?_map] at hq ⊢
      cases hb : K.2.2.2.2[j]? with
      | none => rw [hb] at hq; cases hq
      | some b => rw [hb] at hq; cases hq; exact ⟨_, rfl, rfl⟩
  refine ⟨fun i j x y hi hj hxy => ?_, fun k q hk => ?_⟩
  · obtain ⟨x0, h1, h2⟩ := key i x hi
    obtain ⟨y0, h3, h4⟩ := key j y hj
    exact hD.1 i j x0 y0 h1 h3 (h2.trans (hxy.trans h4.symm))
  · obtain ⟨q0, h1, h2⟩ := key k q hk
    rw [← h2]
    exact hD.2 k q0 h1
section Rows
variable {K : mr_Kd} {cc : ByteArray} {nL fr lo h pc : Nat} {ret : Option FieldType} {Post : mr_PT} {ad : Nat → Nat} {G : mr_GT} {lv st : List Value} {fi : Nat → Int32} {ar : Nat → Nat → Int32} {x y v : Int32}

theorem mr_iconst (hG : mr_Cl K cc nL ret fr lo Post h ad G) (n : Nat) {z : Int} (hd : decode cc pc = .ok (.iconst z, 1)) (hz : Int32.ofInt z = nI n) (kk : G (pc + 1) lv (.int (nI n) :: st) fi ar) : G pc lv st fi ar := by
  obtain ⟨p, l, e, R, s, m, args, below, meth, c, A, D, cA, hok, hx, hb, hr, hk0, hm, hown, hts, hK, hD, hA, hR, rfl⟩ := hG
  intro ls H locs hl hP hS
  exact lv_iconst hx hb hd hz (kk ls H locs hl hP hS)
theorem mr_iconstm (hG : mr_Cl K cc nL ret fr lo Post h ad G) (v : Int32) {z : Int} (hd : decode cc pc = .ok (.iconst z, 1)) (hz : Int32.ofInt z = v) (kk : G (pc + 1) lv (.int v :: st) fi ar) : G pc lv st fi ar := by
  obtain ⟨p, l, e, R, s, m, args, below, meth, c, A, D, cA, hok, hx, hb, hr, hk0, hm, hown, hts, hK, hD, hA, hR, rfl⟩ := hG
  intro ls H locs hl hP hS
  exact lv_iconst hx hb hd hz (kk ls H locs hl hP hS)
theorem mr_bipush (hG : mr_Cl K cc nL ret fr lo Post h ad G) (v : Int32) {z : Int} (hd : decode cc pc = .ok (.bipush z, 2)) (hz : (Int8.ofInt z).toInt32 = v) (kk : G (pc + 2) lv (.int v :: st) fi ar) : G pc lv st fi ar := by
  obtain ⟨p, l, e, R, s, m, args, below, meth, c, A, D, cA, hok, hx, hb, hr, hk0, hm, hown, hts, hK, hD, hA, hR, rfl⟩ := hG
  intro ls H locs hl hP hS
  exact lv_bipush hx hb hd hz (kk ls H locs hl hP hS)
theorem mr_iadd (hG : mr_Cl K cc nL ret fr lo Post h ad G) (hd : decode cc pc = .ok (.iadd, 1)) (kk : G (pc + 1) lv (.int (x + y) :: st) fi ar) : G pc lv (.int y :: .int x :: st) fi ar := by
  obtain ⟨p, l, e, R, s, m, args, below, meth, c, A, D, cA, hok, hx, hb, hr, hk0, hm, hown, hts, hK, hD, hA, hR, rfl⟩ := hG
  intro ls H locs hl hP hS
  exact lv_iadd hx hb hd (kk ls H locs hl hP hS)
theorem mr_isub (hG : mr_Cl K cc nL ret fr lo Post h ad G) (hd : decode cc pc = .ok (.isub, 1)) (kk : G (pc + 1) lv (.int (x - y) :: st) fi ar) : G pc lv (.int y :: .int x :: st) fi ar := by
  obtain ⟨p, l, e, R, s, m, args, below, meth, c, A, D, cA, hok, hx, hb, hr, hk0, hm, hown, hts, hK, hD, hA, hR, rfl⟩ := hG
  intro ls H locs hl hP hS
  exact lv_isub hx hb hd (kk ls H locs hl hP hS)
theorem mr_imul (hG : mr_Cl K cc nL ret fr lo Post h ad G) (hd : decode cc pc = .ok (.imul, 1)) (kk : G (pc + 1) lv (.int (x * y) :: st) fi ar) : G pc lv (.int y :: .int x :: st) fi ar := by
  obtain ⟨p, l, e, R, s, m, args, below, meth, c, A, D, cA, hok, hx, hb, hr, hk0, hm, hown, hts, hK, hD, hA, hR, rfl⟩ := hG
  intro ls H locs hl hP hS
  exact lv_imul hx hb hd (kk ls H locs hl hP hS)
theorem mr_iand (hG : mr_Cl K cc nL ret fr lo Post h ad G) (hd : decode cc pc = .ok (.iand, 1)) (kk : G (pc + 1) lv (.int (x &&& y) :: st) fi ar) : G pc lv (.int y :: .int x :: st) fi ar := by
  obtain ⟨p, l, e, R, s, m, args, below, meth, c, A, D, cA, hok, hx, hb, hr, hk0, hm, hown, hts, hK, hD, hA, hR, rfl⟩ := hG
  intro ls H locs hl hP hS
  exact lv_iand hx hb hd (kk ls H locs hl hP hS)
theorem mr_ishr (hG : mr_Cl K cc nL ret fr lo Post h ad G) (hd : decode cc pc = .ok (.ishr, 1)) (kk : G (pc + 1) lv (.int (x >>> (y &&& 31)) :: st) fi ar) : G pc lv (.int y :: .int x :: st) fi ar := by
  obtain ⟨p, l, e, R, s, m, args, below, meth, c, A, D, cA, hok, hx, hb, hr, hk0, hm, hown, hts, hK, hD, hA, hR, rfl⟩ := hG
  intro ls H locs hl hP hS
  exact lv_ishr hx hb hd (kk ls H locs hl hP hS)
theorem mr_idiv (hG : mr_Cl K cc nL ret fr lo Post h ad G) (hd : decode cc pc = .ok (.idiv, 1)) (hne : ¬ y = 0) (kk : G (pc + 1) lv (.int (x / y) :: st) fi ar) : G pc lv (.int y :: .int x :: st) fi ar := by
  obtain ⟨p, l, e, R, s, m, args, below, meth, c, A, D, cA, hok, hx, hb, hr, hk0, hm, hown, hts, hK, hD, hA, hR, rfl⟩ := hG
  intro ls H locs hl hP hS
  exact lv_idiv hx hb hd hne (kk ls H locs hl hP hS)
theorem mr_irem (hG : mr_Cl K cc nL ret fr lo Post h ad G) (hd : decode cc pc = .ok (.irem, 1)) (hne : ¬ y = 0) (kk : G (pc + 1) lv (.int (x - x / y * y) :: st) fi ar) : G pc lv (.int y :: .int x :: st) fi ar := by
  obtain ⟨p, l, e, R, s, m, args, below, meth, c, A, D, cA, hok, hx, hb, hr, hk0, hm, hown, hts, hK, hD, hA, hR, rfl⟩ := hG
  intro ls H locs hl hP hS
  exact lv_irem hx hb hd hne (kk ls H locs hl hP hS)
theorem mr_i2b (hG : mr_Cl K cc nL ret fr lo Post h ad G) (hd : decode cc pc = .ok (.i2b, 1)) (hv : x.toInt8.toInt32 = v) (kk : G (pc + 1) lv (.int v :: st) fi ar) : G pc lv (.int x :: st) fi ar := by
  obtain ⟨p, l, e, R, s, m, args, below, meth, c, A, D, cA, hok, hx, hb, hr, hk0, hm, hown, hts, hK, hD, hA, hR, rfl⟩ := hG
  intro ls H locs hl hP hS
  exact lv_i2b hx hb hd hv (kk ls H locs hl hP hS)
theorem mr_dup (hG : mr_Cl K cc nL ret fr lo Post h ad G) {a : Value} (hd : decode cc pc = .ok (.dup, 1)) (ha : a.category = 1) (kk : G (pc + 1) lv (a :: a :: st) fi ar) : G pc lv (a :: st) fi ar := by
  obtain ⟨p, l, e, R, s, m, args, below, meth, c, A, D, cA, hok, hx, hb, hr, hk0, hm, hown, hts, hK, hD, hA, hR, rfl⟩ := hG
  intro ls H locs hl hP hS
  exact lv_dup hx hb hd ha (kk ls H locs hl hP hS)
theorem mr_pop (hG : mr_Cl K cc nL ret fr lo Post h ad G) {a : Value} (hd : decode cc pc = .ok (.pop, 1)) (ha : a.category = 1) (kk : G (pc + 1) lv st fi ar) : G pc lv (a :: st) fi ar := by
  obtain ⟨p, l, e, R, s, m, args, below, meth, c, A, D, cA, hok, hx, hb, hr, hk0, hm, hown, hts, hK, hD, hA, hR, rfl⟩ := hG
  intro ls H locs hl hP hS
  exact lv_pop hx hb hd ha (kk ls H locs hl hP hS)
theorem mr_dup2 (hG : mr_Cl K cc nL ret fr lo Post h ad G) {a b : Value} (hd : decode cc pc = .ok (.dup2, 1)) (ha : a.category = 1) (hb2 : b.category = 1) (kk : G (pc + 1) lv (a :: b :: a :: b :: st) fi ar) : G pc lv (a :: b :: st) fi ar := by
  obtain ⟨p, l, e, R, s, m, args, below, meth, c, A, D, cA, hok, hx, hb, hr, hk0, hm, hown, hts, hK, hD, hA, hR, rfl⟩ := hG
  intro ls H locs hl hP hS
  exact lv_dup2_11 hx hb hd ha hb2 (kk ls H locs hl hP hS)
theorem mr_goto (hG : mr_Cl K cc nL ret fr lo Post h ad G) (t : Nat) {off : Int} (hd : decode cc pc = .ok (.goto off, 3)) (ht : (pc : Int) + off = (t : Int)) (kk : G t lv st fi ar) : G pc lv st fi ar := by
  obtain ⟨p, l, e, R, s, m, args, below, meth, c, A, D, cA, hok, hx, hb, hr, hk0, hm, hown, hts, hK, hD, hA, hR, rfl⟩ := hG
  intro ls H locs hl hP hS
  exact lv_goto hx hb hd ht (kk ls H locs hl hP hS)
theorem mr_icmp_eq (hG : mr_Cl K cc nL ret fr lo Post h ad G) (t : Nat) {off : Int} (hd : decode cc pc = .ok (.if_icmp .eq off, 3)) (ht : (pc : Int) + off = (t : Int)) (kt : x = y → G t lv st fi ar) (kf : ¬ x = y → G (pc + 3) lv st fi ar) : G pc lv (.int y :: .int x :: st) fi ar := by
  obtain ⟨p, l, e, R, s, m, args, below, meth, c, A, D, cA, hok, hx, hb, hr, hk0, hm, hown, hts, hK, hD, hA, hR, rfl⟩ := hG
  intro ls H locs hl hP hS
  exact lv_icmp_eq hx hb hd ht (fun q => kt q ls H locs hl hP hS) (fun q => kf q ls H locs hl hP hS)
theorem mr_if_eq (hG : mr_Cl K cc nL ret fr lo Post h ad G) (t : Nat) {off : Int} (hd : decode cc pc = .ok (.ifCond .eq off, 3)) (ht : (pc : Int) + off = (t : Int)) (kt : x = 0 → G t lv st fi ar) (kf : ¬ x = 0 → G (pc + 3) lv st fi ar) : G pc lv (.int x :: st) fi ar := by
  obtain ⟨p, l, e, R, s, m, args, below, meth, c, A, D, cA, hok, hx, hb, hr, hk0, hm, hown, hts, hK, hD, hA, hR, rfl⟩ := hG
  intro ls H locs hl hP hS
  exact lv_if_eq hx hb hd ht (fun q => kt q ls H locs hl hP hS) (fun q => kf q ls H locs hl hP hS)
theorem mr_icmp_ne (hG : mr_Cl K cc nL ret fr lo Post h ad G) (t : Nat) {off : Int} (hd : decode cc pc = .ok (.if_icmp .ne off, 3)) (ht : (pc : Int) + off = (t : Int)) (kt : ¬ x = y → G t lv st fi ar) (kf : x = y → G (pc + 3) lv st fi ar) : G pc lv (.int y :: .int x :: st) fi ar := by
  obtain ⟨p, l, e, R, s, m, args, below, meth, c, A, D, cA, hok, hx, hb, hr, hk0, hm, hown, hts, hK, hD, hA, hR, rfl⟩ := hG
  intro ls H locs hl hP hS
  exact lv_icmp_ne hx hb hd ht (fun q => kt q ls H locs hl hP hS) (fun q => kf q ls H locs hl hP hS)
theorem mr_if_ne (hG : mr_Cl K cc nL ret fr lo Post h ad G) (t : Nat) {off : Int} (hd : decode cc pc = .ok (.ifCond .ne off, 3)) (ht : (pc : Int) + off = (t : Int)) (kt : ¬ x = 0 → G t lv st fi ar) (kf : x = 0 → G (pc + 3) lv st fi ar) : G pc lv (.int x :: st) fi ar := by
  obtain ⟨p, l, e, R, s, m, args, below, meth, c, A, D, cA, hok, hx, hb, hr, hk0, hm, hown, hts, hK, hD, hA, hR, rfl⟩ := hG
  intro ls H locs hl hP hS
  exact lv_if_ne hx hb hd ht (fun q => kt q ls H locs hl hP hS) (fun q => kf q ls H locs hl hP hS)
theorem mr_icmp_lt (hG : mr_Cl K cc nL ret fr lo Post h ad G) (t : Nat) {off : Int} (hd : decode cc pc = .ok (.if_icmp .lt off, 3)) (ht : (pc : Int) + off = (t : Int)) (kt : x < y → G t lv st fi ar) (kf : ¬ x < y → G (pc + 3) lv st fi ar) : G pc lv (.int y :: .int x :: st) fi ar := by
  obtain ⟨p, l, e, R, s, m, args, below, meth, c, A, D, cA, hok, hx, hb, hr, hk0, hm, hown, hts, hK, hD, hA, hR, rfl⟩ := hG
  intro ls H locs hl hP hS
  exact lv_icmp_lt hx hb hd ht (fun q => kt q ls H locs hl hP hS) (fun q => kf q ls H locs hl hP hS)
theorem mr_if_lt (hG : mr_Cl K cc nL ret fr lo Post h ad G) (t : Nat) {off : Int} (hd : decode cc pc = .ok (.ifCond .lt off, 3)) (ht : (pc : Int) + off = (t : Int)) (kt : x < 0 → G t lv st fi ar) (kf : ¬ x < 0 → G (pc + 3) lv st fi ar) : G pc lv (.int x :: st) fi ar := by
  obtain ⟨p, l, e, R, s, m, args, below, meth, c, A, D, cA, hok, hx, hb, hr, hk0, hm, hown, hts, hK, hD, hA, hR, rfl⟩ := hG
  intro ls H locs hl hP hS
  exact lv_if_lt hx hb hd ht (fun q => kt q ls H locs hl hP hS) (fun q => kf q ls H locs hl hP hS)
theorem mr_icmp_ge (hG : mr_Cl K cc nL ret fr lo Post h ad G) (t : Nat) {off : Int} (hd : decode cc pc = .ok (.if_icmp .ge off, 3)) (ht : (pc : Int) + off = (t : Int)) (kt : y ≤ x → G t lv st fi ar) (kf : ¬ y ≤ x → G (pc + 3) lv st fi ar) : G pc lv (.int y :: .int x :: st) fi ar := by
  obtain ⟨p, l, e, R, s, m, args, below, meth, c, A, D, cA, hok, hx, hb, hr, hk0, hm, hown, hts, hK, hD, hA, hR, rfl⟩ := hG
  intro ls H locs hl hP hS
  exact lv_icmp_ge hx hb hd ht (fun q => kt q ls H locs hl hP hS) (fun q => kf q ls H locs hl hP hS)
theorem mr_if_ge (hG : mr_Cl K cc nL ret fr lo Post h ad G) (t : Nat) {off : Int} (hd : decode cc pc = .ok (.ifCond .ge off, 3)) (ht : (pc : Int) + off = (t : Int)) (kt : 0 ≤ x → G t lv st fi ar) (kf : ¬ 0 ≤ x → G (pc + 3) lv st fi ar) : G pc lv (.int x :: st) fi ar := by
  obtain ⟨p, l, e, R, s, m, args, below, meth, c, A, D, cA, hok, hx, hb, hr, hk0, hm, hown, hts, hK, hD, hA, hR, rfl⟩ := hG
  intro ls H locs hl hP hS
  exact lv_if_ge hx hb hd ht (fun q => kt q ls H locs hl hP hS) (fun q => kf q ls H locs hl hP hS)
theorem mr_icmp_gt (hG : mr_Cl K cc nL ret fr lo Post h ad G) (t : Nat) {off : Int} (hd : decode cc pc = .ok (.if_icmp .gt off, 3)) (ht : (pc : Int) + off = (t : Int)) (kt : y < x → G t lv st fi ar) (kf : ¬ y < x → G (pc + 3) lv st fi ar) : G pc lv (.int y :: .int x :: st) fi ar := by
  obtain ⟨p, l, e, R, s, m, args, below, meth, c, A, D, cA, hok, hx, hb, hr, hk0, hm, hown, hts, hK, hD, hA, hR, rfl⟩ := hG
  intro ls H locs hl hP hS
  exact lv_icmp_gt hx hb hd ht (fun q => kt q ls H locs hl hP hS) (fun q => kf q ls H locs hl hP hS)
theorem mr_if_gt (hG : mr_Cl K cc nL ret fr lo Post h ad G) (t : Nat) {off : Int} (hd : decode cc pc = .ok (.ifCond .gt off, 3)) (ht : (pc : Int) + off = (t : Int)) (kt : 0 < x → G t lv st fi ar) (kf : ¬ 0 < x → G (pc + 3) lv st fi ar) : G pc lv (.int x :: st) fi ar := by
  obtain ⟨p, l, e, R, s, m, args, below, meth, c, A, D, cA, hok, hx, hb, hr, hk0, hm, hown, hts, hK, hD, hA, hR, rfl⟩ := hG
  intro ls H locs hl hP hS
  exact lv_if_gt hx hb hd ht (fun q => kt q ls H locs hl hP hS) (fun q => kf q ls H locs hl hP hS)
theorem mr_icmp_le (hG : mr_Cl K cc nL ret fr lo Post h ad G) (t : Nat) {off : Int} (hd : decode cc pc = .ok (.if_icmp .le off, 3)) (ht : (pc : Int) + off = (t : Int)) (kt : x ≤ y → G t lv st fi ar) (kf : ¬ x ≤ y → G (pc + 3) lv st fi ar) : G pc lv (.int y :: .int x :: st) fi ar := by
  obtain ⟨p, l, e, R, s, m, args, below, meth, c, A, D, cA, hok, hx, hb, hr, hk0, hm, hown, hts, hK, hD, hA, hR, rfl⟩ := hG
  intro ls H locs hl hP hS
  exact lv_icmp_le hx hb hd ht (fun q => kt q ls H locs hl hP hS) (fun q => kf q ls H locs hl hP hS)
theorem mr_if_le (hG : mr_Cl K cc nL ret fr lo Post h ad G) (t : Nat) {off : Int} (hd : decode cc pc = .ok (.ifCond .le off, 3)) (ht : (pc : Int) + off = (t : Int)) (kt : x ≤ 0 → G t lv st fi ar) (kf : ¬ x ≤ 0 → G (pc + 3) lv st fi ar) : G pc lv (.int x :: st) fi ar := by
  obtain ⟨p, l, e, R, s, m, args, below, meth, c, A, D, cA, hok, hx, hb, hr, hk0, hm, hown, hts, hK, hD, hA, hR, rfl⟩ := hG
  intro ls H locs hl hP hS
  exact lv_if_le hx hb hd ht (fun q => kt q ls H locs hl hP hS) (fun q => kf q ls H locs hl hP hS)
theorem mr_iaddN (hG : mr_Cl K cc nL ret fr lo Post h ad G) {a b : Nat} (hd : decode cc pc = .ok (.iadd, 1)) (kk : G (pc + 1) lv (.int (nI (a + b)) :: st) fi ar) : G pc lv (.int (nI b) :: .int (nI a) :: st) fi ar := by
  obtain ⟨p, l, e, R, s, m, args, below, meth, c, A, D, cA, hok, hx, hb, hr, hk0, hm, hown, hts, hK, hD, hA, hR, rfl⟩ := hG
  intro ls H locs hl hP hS
  exact lv_iadd hx hb hd (by rw [nI_add]; exact kk ls H locs hl hP hS)
theorem mr_imulN (hG : mr_Cl K cc nL ret fr lo Post h ad G) {a b : Nat} (hd : decode cc pc = .ok (.imul, 1)) (kk : G (pc + 1) lv (.int (nI (a * b)) :: st) fi ar) : G pc lv (.int (nI b) :: .int (nI a) :: st) fi ar := by
  obtain ⟨p, l, e, R, s, m, args, below, meth, c, A, D, cA, hok, hx, hb, hr, hk0, hm, hown, hts, hK, hD, hA, hR, rfl⟩ := hG
  intro ls H locs hl hP hS
  exact lv_imul hx hb hd (by rw [pk_mul]; exact kk ls H locs hl hP hS)
theorem mr_isubN (hG : mr_Cl K cc nL ret fr lo Post h ad G) {a b : Nat} (hd : decode cc pc = .ok (.isub, 1)) (hab : b ≤ a) (kk : G (pc + 1) lv (.int (nI (a - b)) :: st) fi ar) : G pc lv (.int (nI b) :: .int (nI a) :: st) fi ar := by
  obtain ⟨p, l, e, R, s, m, args, below, meth, c, A, D, cA, hok, hx, hb, hr, hk0, hm, hown, hts, hK, hD, hA, hR, rfl⟩ := hG
  intro ls H locs hl hP hS
  exact lv_isub hx hb hd (by rw [pk_sub hab]; exact kk ls H locs hl hP hS)
theorem mr_iremN (hG : mr_Cl K cc nL ret fr lo Post h ad G) {a b : Nat} (hd : decode cc pc = .ok (.irem, 1)) (ha : a < 2 ^ 31) (h0 : 0 < b) (hb2 : b < 2 ^ 31) (kk : G (pc + 1) lv (.int (nI (a % b)) :: st) fi ar) : G pc lv (.int (nI b) :: .int (nI a) :: st) fi ar := by
  obtain ⟨p, l, e, R, s, m, args, below, meth, c, A, D, cA, hok, hx, hb, hr, hk0, hm, hown, hts, hK, hD, hA, hR, rfl⟩ := hG
  intro ls H locs hl hP hS
  exact lv_irem hx hb hd (nI_ne0 h0 hb2) (by rw [pk_rem ha h0 hb2]; exact kk ls H locs hl hP hS)
theorem mr_idivN (hG : mr_Cl K cc nL ret fr lo Post h ad G) {a b : Nat} (hd : decode cc pc = .ok (.idiv, 1)) (ha : a < 2 ^ 31) (h0 : 0 < b) (hb2 : b < 2 ^ 31) (kk : G (pc + 1) lv (.int (nI (a / b)) :: st) fi ar) : G pc lv (.int (nI b) :: .int (nI a) :: st) fi ar := by
  obtain ⟨p, l, e, R, s, m, args, below, meth, c, A, D, cA, hok, hx, hb, hr, hk0, hm, hown, hts, hK, hD, hA, hR, rfl⟩ := hG
  intro ls H locs hl hP hS
  exact lv_idiv hx hb hd (nI_ne0 h0 hb2) (by rw [pk_div ha h0 hb2]; exact kk ls H locs hl hP hS)
theorem mr_icmp_eqN (hG : mr_Cl K cc nL ret fr lo Post h ad G) (t : Nat) {a b : Nat} {off : Int} (hd : decode cc pc = .ok (.if_icmp .eq off, 3)) (ht : (pc : Int) + off = (t : Int)) (ha : a < 2 ^ 31) (hb2 : b < 2 ^ 31) (kt : a = b → G t lv st fi ar) (kf : ¬ a = b → G (pc + 3) lv st fi ar) : G pc lv (.int (nI b) :: .int (nI a) :: st) fi ar := by
  obtain ⟨p, l, e, R, s, m, args, below, meth, c, A, D, cA, hok, hx, hb, hr, hk0, hm, hown, hts, hK, hD, hA, hR, rfl⟩ := hG
  intro ls H locs hl hP hS
  exact lv_icmp_eq hx hb hd ht (fun q => kt ((nI_eq ha hb2).mp q) ls H locs hl hP hS) (fun q => kf (fun z => q ((nI_eq ha hb2).mpr z)) ls H locs hl hP hS)
theorem mr_icmp_neN (hG : mr_Cl K cc nL ret fr lo Post h ad G) (t : Nat) {a b : Nat} {off : Int} (hd : decode cc pc = .ok (.if_icmp .ne off, 3)) (ht : (pc : Int) + off = (t : Int)) (ha : a < 2 ^ 31) (hb2 : b < 2 ^ 31) (kt : ¬ a = b → G t lv st fi ar) (kf : a = b → G (pc + 3) lv st fi ar) : G pc lv (.int (nI b) :: .int (nI a) :: st) fi ar := by
  obtain ⟨p, l, e, R, s, m, args, below, meth, c, A, D, cA, hok, hx, hb, hr, hk0, hm, hown, hts, hK, hD, hA, hR, rfl⟩ := hG
  intro ls H locs hl hP hS
  exact lv_icmp_ne hx hb hd ht (fun q => kt (fun z => q ((nI_eq ha hb2).mpr z)) ls H locs hl hP hS) (fun q => kf ((nI_eq ha hb2).mp q) ls H locs hl hP hS)
theorem mr_icmp_ltN (hG : mr_Cl K cc nL ret fr lo Post h ad G) (t : Nat) {a b : Nat} {off : Int} (hd : decode cc pc = .ok (.if_icmp .lt off, 3)) (ht : (pc : Int) + off = (t : Int)) (ha : a < 2 ^ 31) (hb2 : b < 2 ^ 31) (kt : a < b → G t lv st fi ar) (kf : b ≤ a → G (pc + 3) lv st fi ar) : G pc lv (.int (nI b) :: .int (nI a) :: st) fi ar := by
  obtain ⟨p, l, e, R, s, m, args, below, meth, c, A, D, cA, hok, hx, hb, hr, hk0, hm, hown, hts, hK, hD, hA, hR, rfl⟩ := hG
  intro ls H locs hl hP hS
  exact lv_icmp_lt hx hb hd ht (fun q => kt ((nI_ltI ha hb2).mp q) ls H locs hl hP hS) (fun q => kf (Nat.le_of_not_lt (fun z => q ((nI_ltI ha hb2).mpr z))) ls H locs hl hP hS)
theorem mr_icmp_geN (hG : mr_Cl K cc nL ret fr lo Post h ad G) (t : Nat) {a b : Nat} {off : Int} (hd : decode cc pc = .ok (.if_icmp .ge off, 3)) (ht : (pc : Int) + off = (t : Int)) (ha : a < 2 ^ 31) (hb2 : b < 2 ^ 31) (kt : b ≤ a → G t lv st fi ar) (kf : a < b → G (pc + 3) lv st fi ar) : G pc lv (.int (nI b) :: .int (nI a) :: st) fi ar := by
  obtain ⟨p, l, e, R, s, m, args, below, meth, c, A, D, cA, hok, hx, hb, hr, hk0, hm, hown, hts, hK, hD, hA, hR, rfl⟩ := hG
  intro ls H locs hl hP hS
  exact lv_icmp_ge hx hb hd ht (fun q => kt ((nI_leI hb2 ha).mp q) ls H locs hl hP hS) (fun q => kf (Nat.lt_of_not_le (fun z => q ((nI_leI hb2 ha).mpr z))) ls H locs hl hP hS)
theorem mr_icmp_gtN (hG : mr_Cl K cc nL ret fr lo Post h ad G) (t : Nat) {a b : Nat} {off : Int} (hd : decode cc pc = .ok (.if_icmp .gt off, 3)) (ht : (pc : Int) + off = (t : Int)) (ha : a < 2 ^ 31) (hb2 : b < 2 ^ 31) (kt : b < a → G t lv st fi ar) (kf : a ≤ b → G (pc + 3) lv st fi ar) : G pc lv (.int (nI b) :: .int (nI a) :: st) fi ar := by
  obtain ⟨p, l, e, R, s, m, args, below, meth, c, A, D, cA, hok, hx, hb, hr, hk0, hm, hown, hts, hK, hD, hA, hR, rfl⟩ := hG
  intro ls H locs hl hP hS
  exact lv_icmp_gt hx hb hd ht (fun q => kt ((nI_ltI hb2 ha).mp q) ls H locs hl hP hS) (fun q => kf (Nat.le_of_not_lt (fun z => q ((nI_ltI hb2 ha).mpr z))) ls H locs hl hP hS)
theorem mr_icmp_leN (hG : mr_Cl K cc nL ret fr lo Post h ad G) (t : Nat) {a b : Nat} {off : Int} (hd : decode cc pc = .ok (.if_icmp .le off, 3)) (ht : (pc : Int) + off = (t : Int)) (ha : a < 2 ^ 31) (hb2 : b < 2 ^ 31) (kt : a ≤ b → G t lv st fi ar) (kf : b < a → G (pc + 3) lv st fi ar) : G pc lv (.int (nI b) :: .int (nI a) :: st) fi ar := by
  obtain ⟨p, l, e, R, s, m, args, below, meth, c, A, D, cA, hok, hx, hb, hr, hk0, hm, hown, hts, hK, hD, hA, hR, rfl⟩ := hG
  intro ls H locs hl hP hS
  exact lv_icmp_le hx hb hd ht (fun q => kt ((nI_leI ha hb2).mp q) ls H locs hl hP hS) (fun q => kf (Nat.lt_of_not_le (fun z => q ((nI_leI ha hb2).mpr z))) ls H locs hl hP hS)
theorem mr_top {x y : Int32} (hxy : x = y) (kk : G pc lv (.int y :: st) fi ar) : G pc lv (.int x :: st) fi ar := by
  rw [hxy]; exact kk
theorem mr_iret (hG : mr_Cl K cc nL (some .int) fr lo Post h ad G) (hd : decode cc pc = .ok (.ireturn, 1)) (hp : Post x fi ar) : G pc lv [.int x] fi ar := by
  obtain ⟨p, l, e, R, s, m, args, below, meth, c, A, D, cA, hok, hx, hb, hr, hk0, hm, hown, hts, hK, hD, hA, hR, rfl⟩ := hG
  intro ls H locs hl hP hS
  exact W.iret (v := x) hx hb hr (fun t ht hW => ⟨⟨x, (fi, ar), rfl, hp, by rw [ht]; exact hP, va_K.moved hW.alike hK, hD fi ar⟩, hS.F ht⟩) hS.2.2 hd hk0
theorem mr_zret (hG : mr_Cl K cc nL (some .boolean) fr lo Post h ad G) (hd : decode cc pc = .ok (.ireturn, 1)) (hn : narrow .boolean (.int x) = .int x) (hp : Post x fi ar) : G pc lv [.int x] fi ar := by
  obtain ⟨p, l, e, R, s, m, args, below, meth, c, A, D, cA, hok, hx, hb, hr, hk0, hm, hown, hts, hK, hD, hA, hR, rfl⟩ := hG
  intro ls H locs hl hP hS
  exact W.zret (v := x) hx hb hr hn (fun t ht hW => ⟨⟨x, (fi, ar), rfl, hp, by rw [ht]; exact hP, va_K.moved hW.alike hK, hD fi ar⟩, hS.F ht⟩) hS.2.2 hd hk0
theorem mr_vret (hG : mr_Cl K cc nL none fr lo Post h ad G) (hd : decode cc pc = .ok (.return_, 1)) (hp : Post 0 fi ar) : G pc lv [] fi ar := by
  obtain ⟨p, l, e, R, s, m, args, below, meth, c, A, D, cA, hok, hx, hb, hr, hk0, hm, hown, hts, hK, hD, hA, hR, rfl⟩ := hG
  intro ls H locs hl hP hS
  exact W.vret hx hb hr (fun t ht hW => ⟨⟨(fi, ar), rfl, hp, by rw [ht]; exact hP, va_K.moved hW.alike hK, hD fi ar⟩, hS.F ht⟩) hS.2.2 hd hk0
theorem mr_getI (hG : mr_Cl K cc nL ret fr lo Post h ad G) (k : Nat) (hk : k < K.2.2.1) (hi : mr_isA K k = false) {idx : Nat} (hq : Cond.fieldLink K.1 idx (K.2.1 k).1 (K.2.1 k).2.1 (K.2.1 k).2.2.1 ∈ lw_all) (hd : decode cc pc = .ok (.getfield idx, 3)) (kk : G (pc + 3) lv (.int (fi k) :: st) fi ar) : G pc lv (.ref h :: st) fi ar := by
  obtain ⟨p, l, e, R, s, m, args, below, meth, c, A, D, cA, hok, hx, hb, hr, hk0, hm, hown, hts, hK, hD, hA, hR, rfl⟩ := hG
  intro ls H locs hl hP hS
  exact va_get (D := D) (ci := K.2.2.2.1) (v := .int (fi k)) (C := K.1) (T := K.2.1) (N := K.2.2.1) hx hb hts hok.1 hown hK hP 0 mr_ws_0 hok.2.1 k hk (hts _ hq) (fun _ h9 => h9) (by rw [mr_fs_k hk]; simp [mr_fld, hi]) hd (kk ls H locs hl hP hS)
theorem mr_getA (hG : mr_Cl K cc nL ret fr lo Post h ad G) (k : Nat) (hk : k < K.2.2.1) (hi : mr_isA K k = true) {idx : Nat} (hq : Cond.fieldLink K.1 idx (K.2.1 k).1 (K.2.1 k).2.1 (K.2.1 k).2.2.1 ∈ lw_all) (hd : decode cc pc = .ok (.getfield idx, 3)) (kk : G (pc + 3) lv (.ref (ad k) :: st) fi ar) : G pc lv (.ref h :: st) fi ar := by
  obtain ⟨p, l, e, R, s, m, args, below, meth, c, A, D, cA, hok, hx, hb, hr, hk0, hm, hown, hts, hK, hD, hA, hR, rfl⟩ := hG
  intro ls H locs hl hP hS
  exact va_get (D := D) (ci := K.2.2.2.1) (v := .ref (ad k)) (C := K.1) (T := K.2.1) (N := K.2.2.1) hx hb hts hok.1 hown hK hP 0 mr_ws_0 hok.2.1 k hk (hts _ hq) (fun _ h9 => h9) (by rw [mr_fs_k hk]; simp [mr_fld, hi]) hd (kk ls H locs hl hP hS)
theorem mr_putI (hG : mr_Cl K cc nL ret fr lo Post h ad G) (k : Nat) (hk : k < K.2.2.1) (hi : mr_isA K k = false) {idx : Nat} (hq : Cond.fieldLink K.1 idx (K.2.1 k).1 (K.2.1 k).2.1 (K.2.1 k).2.2.1 ∈ lw_all) (hfin : (K.2.1 k).2.2.2 = false) (hty : parseFieldDescriptor (K.2.1 k).2.2.1 = some .int) (hd : decode cc pc = .ok (.putfield idx, 3)) (kk : G (pc + 3) lv st (upd fi k x) ar) : G pc lv (.int x :: .ref h :: st) fi ar := by
  obtain ⟨p, l, e, R, s, m, args, below, meth, c, A, D, cA, hok, hx, hb, hr, hk0, hm, hown, hts, hK, hD, hA, hR, rfl⟩ := hG
  intro ls H locs hl hP hS
  obtain ⟨ty0, hty0⟩ := hok.2.2.1
  refine va_put (D := D) (ci := K.2.2.2.1) (v := .int x) (ty := .int) (C := K.1) (T := K.2.1) (N := K.2.2.1) hx hb hts hok.1 ty0 hty0 hok.2.2.2.1 hown hK hP (hD fi ar) hS 0 mr_ws_0 hok.2.1 k hk (hts _ hq) (fun _ h9 => h9) hfin hty rfl rfl (by simp [mr_fs, hk]) hd (fun H1 locs1 hP1 hD1 hS1 => ?_)
  rw [mr_ws_put hk hi] at hP1
  exact kk ls H1 locs1 hl hP1 hS1
theorem mr_iald (hG : mr_Cl K cc nL ret fr lo Post h ad G) (j k n : Nat) (hj : K.2.2.2.2[j]? = some (k, n, .int)) (hn : n < 2 ^ 31) (hd : decode cc pc = .ok (.iaload, 1)) (i : Nat) (hi : x = nI i) (hlt : i < n) (kk : G (pc + 1) lv (.int (ar k i) :: st) fi ar) : G pc lv (.int x :: .ref (ad k) :: st) fi ar := by
  obtain ⟨p, l, e, R, s, m, args, below, meth, c, A, D, cA, hok, hx, hb, hr, hk0, hm, hown, hts, hK, hD, hA, hR, rfl⟩ := hG
  intro ls H locs hl hP hS
  subst hi
  refine va_iald hx hb hK hP (j + 1) j (mr_ws_s hj) (mr_tys_j hj) (vp_in_nI hlt hn) hd ?_
  rw [nI_clamp (Nat.lt_trans hlt hn)]
  exact kk ls H locs hl hP hS
theorem mr_bald (hG : mr_Cl K cc nL ret fr lo Post h ad G) (j k n : Nat) (hj : K.2.2.2.2[j]? = some (k, n, .byte)) (hn : n < 2 ^ 31) (hd : decode cc pc = .ok (.baload, 1)) (i : Nat) (hi : x = nI i) (hlt : i < n) (kk : G (pc + 1) lv (.int (ar k i) :: st) fi ar) : G pc lv (.int x :: .ref (ad k) :: st) fi ar := by
  obtain ⟨p, l, e, R, s, m, args, below, meth, c, A, D, cA, hok, hx, hb, hr, hk0, hm, hown, hts, hK, hD, hA, hR, rfl⟩ := hG
  intro ls H locs hl hP hS
  subst hi
  refine va_bald hx hb hK hP (j + 1) j (mr_ws_s hj) (mr_tys_j hj) (vp_in_nI hlt hn) hd ?_
  rw [nI_clamp (Nat.lt_trans hlt hn)]
  exact kk ls H locs hl hP hS
theorem mr_zald (hG : mr_Cl K cc nL ret fr lo Post h ad G) (j k n : Nat) (hj : K.2.2.2.2[j]? = some (k, n, .boolean)) (hn : n < 2 ^ 31) (hd : decode cc pc = .ok (.baload, 1)) (i : Nat) (hi : x = nI i) (hlt : i < n) (kk : G (pc + 1) lv (.int (ar k i) :: st) fi ar) : G pc lv (.int x :: .ref (ad k) :: st) fi ar := by
  obtain ⟨p, l, e, R, s, m, args, below, meth, c, A, D, cA, hok, hx, hb, hr, hk0, hm, hown, hts, hK, hD, hA, hR, rfl⟩ := hG
  intro ls H locs hl hP hS
  subst hi
  refine va_zald hx hb hK hP (j + 1) j (mr_ws_s hj) (mr_tys_j hj) (vp_in_nI hlt hn) hd ?_
  rw [nI_clamp (Nat.lt_trans hlt hn)]
  exact kk ls H locs hl hP hS
theorem mr_iast (hG : mr_Cl K cc nL ret fr lo Post h ad G) (j k n : Nat) (hj : K.2.2.2.2[j]? = some (k, n, .int)) (hn : n < 2 ^ 31) (hd : decode cc pc = .ok (.iastore, 1)) (i : Nat) (hi : y = nI i) (hlt : i < n) (hv : x = v) (kk : G (pc + 1) lv st fi (ua ar k i v)) : G pc lv (.int x :: .int y :: .ref (ad k) :: st) fi ar := by
  obtain ⟨p, l, e, R, s, m, args, below, meth, c, A, D, cA, hok, hx, hb, hr, hk0, hm, hown, hts, hK, hD, hA, hR, rfl⟩ := hG
  intro ls H locs hl hP hS
  subst hi
  refine va_iast hx hb hK hP (hD fi ar) hS (j + 1) j (mr_ws_s hj) (mr_tys_j hj) (vp_in_nI hlt hn) hd (fun H1 locs1 hP1 hD1 hS1 => ?_)
  rw [nI_clamp (Nat.lt_trans hlt hn), hv, mr_ws_ast hok hj] at hP1
  exact kk ls H1 locs1 hl hP1 hS1
theorem mr_bast (hG : mr_Cl K cc nL ret fr lo Post h ad G) (j k n : Nat) (hj : K.2.2.2.2[j]? = some (k, n, .byte)) (hn : n < 2 ^ 31) (hd : decode cc pc = .ok (.bastore, 1)) (i : Nat) (hi : y = nI i) (hlt : i < n) (hv : vp_nar .byte x = v) (kk : G (pc + 1) lv st fi (ua ar k i v)) : G pc lv (.int x :: .int y :: .ref (ad k) :: st) fi ar := by
  obtain ⟨p, l, e, R, s, m, args, below, meth, c, A, D, cA, hok, hx, hb, hr, hk0, hm, hown, hts, hK, hD, hA, hR, rfl⟩ := hG
  intro ls H locs hl hP hS
  subst hi
  refine va_bast hx hb hK hP (hD fi ar) hS (j + 1) j (mr_ws_s hj) (mr_tys_j hj) (vp_in_nI hlt hn) hd (fun H1 locs1 hP1 hD1 hS1 => ?_)
  rw [nI_clamp (Nat.lt_trans hlt hn), hv, mr_ws_ast hok hj] at hP1
  exact kk ls H1 locs1 hl hP1 hS1
theorem mr_zast (hG : mr_Cl K cc nL ret fr lo Post h ad G) (j k n : Nat) (hj : K.2.2.2.2[j]? = some (k, n, .boolean)) (hn : n < 2 ^ 31) (hd : decode cc pc = .ok (.bastore, 1)) (i : Nat) (hi : y = nI i) (hlt : i < n) (hv : vp_nar .boolean x = v) (kk : G (pc + 1) lv st fi (ua ar k i v)) : G pc lv (.int x :: .int y :: .ref (ad k) :: st) fi ar := by
  obtain ⟨p, l, e, R, s, m, args, below, meth, c, A, D, cA, hok, hx, hb, hr, hk0, hm, hown, hts, hK, hD, hA, hR, rfl⟩ := hG
  intro ls H locs hl hP hS
  subst hi
  refine va_zast hx hb hK hP (hD fi ar) hS (j + 1) j (mr_ws_s hj) (mr_tys_j hj) (vp_in_nI hlt hn) hd (fun H1 locs1 hP1 hD1 hS1 => ?_)
  rw [nI_clamp (Nat.lt_trans hlt hn), hv, mr_ws_ast hok hj] at hP1
  exact kk ls H1 locs1 hl hP1 hS1
theorem mr_iload0 (hG : mr_Cl K cc nL ret fr lo Post h ad G) {r : List Value} (hd : decode cc pc = .ok (.iload_n 0, 1)) (kk : G (pc + 1) (.int x :: r) (.int x :: st) fi ar) : G pc (.int x :: r) st fi ar := by
  obtain ⟨p, l, e, R, s, m, args, below, meth, c, A, D, cA, hok, hx, hb, hr, hk0, hm, hown, hts, hK, hD, hA, hR, rfl⟩ := hG
  intro ls H locs hl hP hS
  exact lv_iload_n hx hb hd rfl (hl.2.2.2.1 0 (.int x) rfl rfl) (kk ls H locs hl hP hS)
theorem mr_aload0 (hG : mr_Cl K cc nL ret fr lo Post h ad G) {r : List Value} {b : Nat} (hd : decode cc pc = .ok (.aload_n 0, 1)) (kk : G (pc + 1) (.ref b :: r) (.ref b :: st) fi ar) : G pc (.ref b :: r) st fi ar := by
  obtain ⟨p, l, e, R, s, m, args, below, meth, c, A, D, cA, hok, hx, hb, hr, hk0, hm, hown, hts, hK, hD, hA, hR, rfl⟩ := hG
  intro ls H locs hl hP hS
  exact lv_aload_n hx hb hd rfl (hl.2.2.2.1 0 (.ref b) rfl rfl) (kk ls H locs hl hP hS)
theorem mr_istore0 (hG : mr_Cl K cc nL ret fr lo Post h ad G) {b : Value} {r : List Value} (hd : decode cc pc = .ok (.istore_n 0, 1)) (kk : G (pc + 1) (.int x :: r) st fi ar) : G pc (b :: r) (.int x :: st) fi ar := by
  obtain ⟨p, l, e, R, s, m, args, below, meth, c, A, D, cA, hok, hx, hb, hr, hk0, hm, hown, hts, hK, hD, hA, hR, rfl⟩ := hG
  intro ls H locs hl hP hS
  have hn : 0 < nL := by have h1 := hl.1; simp only [List.length_cons] at h1; omega
  exact lv_istore_n hx hb hd rfl (mr_has_lv hl) hn rfl (fun ls' hl' => kk ls' H locs (mr_has_set hl rfl hl') hP hS)
theorem mr_iincS0 (hG : mr_Cl K cc nL ret fr lo Post h ad G) {r : List Value} {i : Nat} (hd : decode cc pc = .ok (.iinc 0 1, 3)) (kk : G (pc + 3) (.int (nI (i + 1)) :: r) st fi ar) : G pc (.int (nI i) :: r) st fi ar := by
  obtain ⟨p, l, e, R, s, m, args, below, meth, c, A, D, cA, hok, hx, hb, hr, hk0, hm, hown, hts, hK, hD, hA, hR, rfl⟩ := hG
  intro ls H locs hl hP hS
  have hn : 0 < nL := by have h1 := hl.1; simp only [List.length_cons] at h1; omega
  have hm2 : ((0, Value.int (nI i)) : Nat × Value) ∈ mr_ix (.int (nI i) :: r) := mr_ix_mem.mpr ⟨rfl, rfl⟩
  obtain ⟨kq, hkq⟩ := List.getElem?_of_mem hm2
  exact lv_iinc hx hb hd (mr_has_lv hl) hkq (v := nI (i + 1)) (nI_1 i) hn rfl (fun ls' hl' => kk ls' H locs (mr_has_set hl rfl hl') hP hS)
theorem mr_iinc0 (hG : mr_Cl K cc nL ret fr lo Post h ad G) {r : List Value} {z : Int} (hd : decode cc pc = .ok (.iinc 0 z, 3)) (hz : x + Int32.ofInt z = v) (kk : G (pc + 3) (.int v :: r) st fi ar) : G pc (.int x :: r) st fi ar := by
  obtain ⟨p, l, e, R, s, m, args, below, meth, c, A, D, cA, hok, hx, hb, hr, hk0, hm, hown, hts, hK, hD, hA, hR, rfl⟩ := hG
  intro ls H locs hl hP hS
  have hn : 0 < nL := by have h1 := hl.1; simp only [List.length_cons] at h1; omega
  have hm2 : ((0, Value.int x) : Nat × Value) ∈ mr_ix (.int x :: r) := mr_ix_mem.mpr ⟨rfl, rfl⟩
  obtain ⟨kq, hkq⟩ := List.getElem?_of_mem hm2
  exact lv_iinc hx hb hd (mr_has_lv hl) hkq hz hn rfl (fun ls' hl' => kk ls' H locs (mr_has_set hl rfl hl') hP hS)
theorem mr_iload1 (hG : mr_Cl K cc nL ret fr lo Post h ad G) {a0 : Value} {r : List Value} (hd : decode cc pc = .ok (.iload_n 1, 1)) (kk : G (pc + 1) (a0 :: .int x :: r) (.int x :: st) fi ar) : G pc (a0 :: .int x :: r) st fi ar := by
  obtain ⟨p, l, e, R, s, m, args, below, meth, c, A, D, cA, hok, hx, hb, hr, hk0, hm, hown, hts, hK, hD, hA, hR, rfl⟩ := hG
  intro ls H locs hl hP hS
  exact lv_iload_n hx hb hd rfl (hl.2.2.2.1 1 (.int x) rfl rfl) (kk ls H locs hl hP hS)
theorem mr_aload1 (hG : mr_Cl K cc nL ret fr lo Post h ad G) {a0 : Value} {r : List Value} {b : Nat} (hd : decode cc pc = .ok (.aload_n 1, 1)) (kk : G (pc + 1) (a0 :: .ref b :: r) (.ref b :: st) fi ar) : G pc (a0 :: .ref b :: r) st fi ar := by
  obtain ⟨p, l, e, R, s, m, args, below, meth, c, A, D, cA, hok, hx, hb, hr, hk0, hm, hown, hts, hK, hD, hA, hR, rfl⟩ := hG
  intro ls H locs hl hP hS
  exact lv_aload_n hx hb hd rfl (hl.2.2.2.1 1 (.ref b) rfl rfl) (kk ls H locs hl hP hS)
theorem mr_istore1 (hG : mr_Cl K cc nL ret fr lo Post h ad G) {a0 : Value} {b : Value} {r : List Value} (hd : decode cc pc = .ok (.istore_n 1, 1)) (kk : G (pc + 1) (a0 :: .int x :: r) st fi ar) : G pc (a0 :: b :: r) (.int x :: st) fi ar := by
  obtain ⟨p, l, e, R, s, m, args, below, meth, c, A, D, cA, hok, hx, hb, hr, hk0, hm, hown, hts, hK, hD, hA, hR, rfl⟩ := hG
  intro ls H locs hl hP hS
  have hn : 1 < nL := by have h1 := hl.1; simp only [List.length_cons] at h1; omega
  exact lv_istore_n hx hb hd rfl (mr_has_lv hl) hn rfl (fun ls' hl' => kk ls' H locs (mr_has_set hl rfl hl') hP hS)
theorem mr_iincS1 (hG : mr_Cl K cc nL ret fr lo Post h ad G) {a0 : Value} {r : List Value} {i : Nat} (hd : decode cc pc = .ok (.iinc 1 1, 3)) (kk : G (pc + 3) (a0 :: .int (nI (i + 1)) :: r) st fi ar) : G pc (a0 :: .int (nI i) :: r) st fi ar := by
  obtain ⟨p, l, e, R, s, m, args, below, meth, c, A, D, cA, hok, hx, hb, hr, hk0, hm, hown, hts, hK, hD, hA, hR, rfl⟩ := hG
  intro ls H locs hl hP hS
  have hn : 1 < nL := by have h1 := hl.1; simp only [List.length_cons] at h1; omega
  have hm2 : ((1, Value.int (nI i)) : Nat × Value) ∈ mr_ix (a0 :: .int (nI i) :: r) := mr_ix_mem.mpr ⟨rfl, rfl⟩
  obtain ⟨kq, hkq⟩ := List.getElem?_of_mem hm2
  exact lv_iinc hx hb hd (mr_has_lv hl) hkq (v := nI (i + 1)) (nI_1 i) hn rfl (fun ls' hl' => kk ls' H locs (mr_has_set hl rfl hl') hP hS)
theorem mr_iinc1 (hG : mr_Cl K cc nL ret fr lo Post h ad G) {a0 : Value} {r : List Value} {z : Int} (hd : decode cc pc = .ok (.iinc 1 z, 3)) (hz : x + Int32.ofInt z = v) (kk : G (pc + 3) (a0 :: .int v :: r) st fi ar) : G pc (a0 :: .int x :: r) st fi ar := by
  obtain ⟨p, l, e, R, s, m, args, below, meth, c, A, D, cA, hok, hx, hb, hr, hk0, hm, hown, hts, hK, hD, hA, hR, rfl⟩ := hG
  intro ls H locs hl hP hS
  have hn : 1 < nL := by have h1 := hl.1; simp only [List.length_cons] at h1; omega
  have hm2 : ((1, Value.int x) : Nat × Value) ∈ mr_ix (a0 :: .int x :: r) := mr_ix_mem.mpr ⟨rfl, rfl⟩
  obtain ⟨kq, hkq⟩ := List.getElem?_of_mem hm2
  exact lv_iinc hx hb hd (mr_has_lv hl) hkq hz hn rfl (fun ls' hl' => kk ls' H locs (mr_has_set hl rfl hl') hP hS)
theorem mr_iload2 (hG : mr_Cl K cc nL ret fr lo Post h ad G) {a0 a1 : Value} {r : List Value} (hd : decode cc pc = .ok (.iload_n 2, 1)) (kk : G (pc + 1) (a0 :: a1 :: .int x :: r) (.int x :: st) fi ar) : G pc (a0 :: a1 :: .int x :: r) st fi ar := by
  obtain ⟨p, l, e, R, s, m, args, below, meth, c, A, D, cA, hok, hx, hb, hr, hk0, hm, hown, hts, hK, hD, hA, hR, rfl⟩ := hG
  intro ls H locs hl hP hS
  exact lv_iload_n hx hb hd rfl (hl.2.2.2.1 2 (.int x) rfl rfl) (kk ls H locs hl hP hS)
theorem mr_aload2 (hG : mr_Cl K cc nL ret fr lo Post h ad G) {a0 a1 : Value} {r : List Value} {b : Nat} (hd : decode cc pc = .ok (.aload_n 2, 1)) (kk : G (pc + 1) (a0 :: a1 :: .ref b :: r) (.ref b :: st) fi ar) : G pc (a0 :: a1 :: .ref b :: r) st fi ar := by
  obtain ⟨p, l, e, R, s, m, args, below, meth, c, A, D, cA, hok, hx, hb, hr, hk0, hm, hown, hts, hK, hD, hA, hR, rfl⟩ := hG
  intro ls H locs hl hP hS
  exact lv_aload_n hx hb hd rfl (hl.2.2.2.1 2 (.ref b) rfl rfl) (kk ls H locs hl hP hS)
theorem mr_istore2 (hG : mr_Cl K cc nL ret fr lo Post h ad G) {a0 a1 : Value} {b : Value} {r : List Value} (hd : decode cc pc = .ok (.istore_n 2, 1)) (kk : G (pc + 1) (a0 :: a1 :: .int x :: r) st fi ar) : G pc (a0 :: a1 :: b :: r) (.int x :: st) fi ar := by
  obtain ⟨p, l, e, R, s, m, args, below, meth, c, A, D, cA, hok, hx, hb, hr, hk0, hm, hown, hts, hK, hD, hA, hR, rfl⟩ := hG
  intro ls H locs hl hP hS
  have hn : 2 < nL := by have h1 := hl.1; simp only [List.length_cons] at h1; omega
  exact lv_istore_n hx hb hd rfl (mr_has_lv hl) hn rfl (fun ls' hl' => kk ls' H locs (mr_has_set hl rfl hl') hP hS)
theorem mr_iincS2 (hG : mr_Cl K cc nL ret fr lo Post h ad G) {a0 a1 : Value} {r : List Value} {i : Nat} (hd : decode cc pc = .ok (.iinc 2 1, 3)) (kk : G (pc + 3) (a0 :: a1 :: .int (nI (i + 1)) :: r) st fi ar) : G pc (a0 :: a1 :: .int (nI i) :: r) st fi ar := by
  obtain ⟨p, l, e, R, s, m, args, below, meth, c, A, D, cA, hok, hx, hb, hr, hk0, hm, hown, hts, hK, hD, hA, hR, rfl⟩ := hG
  intro ls H locs hl hP hS
  have hn : 2 < nL := by have h1 := hl.1; simp only [List.length_cons] at h1; omega
  have hm2 : ((2, Value.int (nI i)) : Nat × Value) ∈ mr_ix (a0 :: a1 :: .int (nI i) :: r) := mr_ix_mem.mpr ⟨rfl, rfl⟩
  obtain ⟨kq, hkq⟩ := List.getElem?_of_mem hm2
  exact lv_iinc hx hb hd (mr_has_lv hl) hkq (v := nI (i + 1)) (nI_1 i) hn rfl (fun ls' hl' => kk ls' H locs (mr_has_set hl rfl hl') hP hS)
theorem mr_iinc2 (hG : mr_Cl K cc nL ret fr lo Post h ad G) {a0 a1 : Value} {r : List Value} {z : Int} (hd : decode cc pc = .ok (.iinc 2 z, 3)) (hz : x + Int32.ofInt z = v) (kk : G (pc + 3) (a0 :: a1 :: .int v :: r) st fi ar) : G pc (a0 :: a1 :: .int x :: r) st fi ar := by
  obtain ⟨p, l, e, R, s, m, args, below, meth, c, A, D, cA, hok, hx, hb, hr, hk0, hm, hown, hts, hK, hD, hA, hR, rfl⟩ := hG
  intro ls H locs hl hP hS
  have hn : 2 < nL := by have h1 := hl.1; simp only [List.length_cons] at h1; omega
  have hm2 : ((2, Value.int x) : Nat × Value) ∈ mr_ix (a0 :: a1 :: .int x :: r) := mr_ix_mem.mpr ⟨rfl, rfl⟩
  obtain ⟨kq, hkq⟩ := List.getElem?_of_mem hm2
  exact lv_iinc hx hb hd (mr_has_lv hl) hkq hz hn rfl (fun ls' hl' => kk ls' H locs (mr_has_set hl rfl hl') hP hS)
theorem mr_iload3 (hG : mr_Cl K cc nL ret fr lo Post h ad G) {a0 a1 a2 : Value} {r : List Value} (hd : decode cc pc = .ok (.iload_n 3, 1)) (kk : G (pc + 1) (a0 :: a1 :: a2 :: .int x :: r) (.int x :: st) fi ar) : G pc (a0 :: a1 :: a2 :: .int x :: r) st fi ar := by
  obtain ⟨p, l, e, R, s, m, args, below, meth, c, A, D, cA, hok, hx, hb, hr, hk0, hm, hown, hts, hK, hD, hA, hR, rfl⟩ := hG
  intro ls H locs hl hP hS
  exact lv_iload_n hx hb hd rfl (hl.2.2.2.1 3 (.int x) rfl rfl) (kk ls H locs hl hP hS)
theorem mr_aload3 (hG : mr_Cl K cc nL ret fr lo Post h ad G) {a0 a1 a2 : Value} {r : List Value} {b : Nat} (hd : decode cc pc = .ok (.aload_n 3, 1)) (kk : G (pc + 1) (a0 :: a1 :: a2 :: .ref b :: r) (.ref b :: st) fi ar) : G pc (a0 :: a1 :: a2 :: .ref b :: r) st fi ar := by
  obtain ⟨p, l, e, R, s, m, args, below, meth, c, A, D, cA, hok, hx, hb, hr, hk0, hm, hown, hts, hK, hD, hA, hR, rfl⟩ := hG
  intro ls H locs hl hP hS
  exact lv_aload_n hx hb hd rfl (hl.2.2.2.1 3 (.ref b) rfl rfl) (kk ls H locs hl hP hS)
theorem mr_istore3 (hG : mr_Cl K cc nL ret fr lo Post h ad G) {a0 a1 a2 : Value} {b : Value} {r : List Value} (hd : decode cc pc = .ok (.istore_n 3, 1)) (kk : G (pc + 1) (a0 :: a1 :: a2 :: .int x :: r) st fi ar) : G pc (a0 :: a1 :: a2 :: b :: r) (.int x :: st) fi ar := by
  obtain ⟨p, l, e, R, s, m, args, below, meth, c, A, D, cA, hok, hx, hb, hr, hk0, hm, hown, hts, hK, hD, hA, hR, rfl⟩ := hG
  intro ls H locs hl hP hS
  have hn : 3 < nL := by have h1 := hl.1; simp only [List.length_cons] at h1; omega
  exact lv_istore_n hx hb hd rfl (mr_has_lv hl) hn rfl (fun ls' hl' => kk ls' H locs (mr_has_set hl rfl hl') hP hS)
theorem mr_iincS3 (hG : mr_Cl K cc nL ret fr lo Post h ad G) {a0 a1 a2 : Value} {r : List Value} {i : Nat} (hd : decode cc pc = .ok (.iinc 3 1, 3)) (kk : G (pc + 3) (a0 :: a1 :: a2 :: .int (nI (i + 1)) :: r) st fi ar) : G pc (a0 :: a1 :: a2 :: .int (nI i) :: r) st fi ar := by
  obtain ⟨p, l, e, R, s, m, args, below, meth, c, A, D, cA, hok, hx, hb, hr, hk0, hm, hown, hts, hK, hD, hA, hR, rfl⟩ := hG
  intro ls H locs hl hP hS
  have hn : 3 < nL := by have h1 := hl.1; simp only [List.length_cons] at h1; omega
  have hm2 : ((3, Value.int (nI i)) : Nat × Value) ∈ mr_ix (a0 :: a1 :: a2 :: .int (nI i) :: r) := mr_ix_mem.mpr ⟨rfl, rfl⟩
  obtain ⟨kq, hkq⟩ := List.getElem?_of_mem hm2
  exact lv_iinc hx hb hd (mr_has_lv hl) hkq (v := nI (i + 1)) (nI_1 i) hn rfl (fun ls' hl' => kk ls' H locs (mr_has_set hl rfl hl') hP hS)
theorem mr_iinc3 (hG : mr_Cl K cc nL ret fr lo Post h ad G) {a0 a1 a2 : Value} {r : List Value} {z : Int} (hd : decode cc pc = .ok (.iinc 3 z, 3)) (hz : x + Int32.ofInt z = v) (kk : G (pc + 3) (a0 :: a1 :: a2 :: .int v :: r) st fi ar) : G pc (a0 :: a1 :: a2 :: .int x :: r) st fi ar := by
  obtain ⟨p, l, e, R, s, m, args, below, meth, c, A, D, cA, hok, hx, hb, hr, hk0, hm, hown, hts, hK, hD, hA, hR, rfl⟩ := hG
  intro ls H locs hl hP hS
  have hn : 3 < nL := by have h1 := hl.1; simp only [List.length_cons] at h1; omega
  have hm2 : ((3, Value.int x) : Nat × Value) ∈ mr_ix (a0 :: a1 :: a2 :: .int x :: r) := mr_ix_mem.mpr ⟨rfl, rfl⟩
  obtain ⟨kq, hkq⟩ := List.getElem?_of_mem hm2
  exact lv_iinc hx hb hd (mr_has_lv hl) hkq hz hn rfl (fun ls' hl' => kk ls' H locs (mr_has_set hl rfl hl') hP hS)
theorem mr_iload4 (hG : mr_Cl K cc nL ret fr lo Post h ad G) {a0 a1 a2 a3 : Value} {r : List Value} (hd : decode cc pc = .ok (.iload 4, 2)) (kk : G (pc + 2) (a0 :: a1 :: a2 :: a3 :: .int x :: r) (.int x :: st) fi ar) : G pc (a0 :: a1 :: a2 :: a3 :: .int x :: r) st fi ar := by
  obtain ⟨p, l, e, R, s, m, args, below, meth, c, A, D, cA, hok, hx, hb, hr, hk0, hm, hown, hts, hK, hD, hA, hR, rfl⟩ := hG
  intro ls H locs hl hP hS
  exact lv_iload hx hb hd (hl.2.2.2.1 4 (.int x) rfl rfl) (kk ls H locs hl hP hS)
theorem mr_istore4 (hG : mr_Cl K cc nL ret fr lo Post h ad G) {a0 a1 a2 a3 : Value} {b : Value} {r : List Value} (hd : decode cc pc = .ok (.istore 4, 2)) (kk : G (pc + 2) (a0 :: a1 :: a2 :: a3 :: .int x :: r) st fi ar) : G pc (a0 :: a1 :: a2 :: a3 :: b :: r) (.int x :: st) fi ar := by
  obtain ⟨p, l, e, R, s, m, args, below, meth, c, A, D, cA, hok, hx, hb, hr, hk0, hm, hown, hts, hK, hD, hA, hR, rfl⟩ := hG
  intro ls H locs hl hP hS
  have hn : 4 < nL := by have h1 := hl.1; simp only [List.length_cons] at h1; omega
  exact lv_istore hx hb hd (mr_has_lv hl) hn rfl (fun ls' hl' => kk ls' H locs (mr_has_set hl rfl hl') hP hS)
theorem mr_iincS4 (hG : mr_Cl K cc nL ret fr lo Post h ad G) {a0 a1 a2 a3 : Value} {r : List Value} {i : Nat} (hd : decode cc pc = .ok (.iinc 4 1, 3)) (kk : G (pc + 3) (a0 :: a1 :: a2 :: a3 :: .int (nI (i + 1)) :: r) st fi ar) : G pc (a0 :: a1 :: a2 :: a3 :: .int (nI i) :: r) st fi ar := by
  obtain ⟨p, l, e, R, s, m, args, below, meth, c, A, D, cA, hok, hx, hb, hr, hk0, hm, hown, hts, hK, hD, hA, hR, rfl⟩ := hG
  intro ls H locs hl hP hS
  have hn : 4 < nL := by have h1 := hl.1; simp only [List.length_cons] at h1; omega
  have hm2 : ((4, Value.int (nI i)) : Nat × Value) ∈ mr_ix (a0 :: a1 :: a2 :: a3 :: .int (nI i) :: r) := mr_ix_mem.mpr ⟨rfl, rfl⟩
  obtain ⟨kq, hkq⟩ := List.getElem?_of_mem hm2
  exact lv_iinc hx hb hd (mr_has_lv hl) hkq (v := nI (i + 1)) (nI_1 i) hn rfl (fun ls' hl' => kk ls' H locs (mr_has_set hl rfl hl') hP hS)
theorem mr_iinc4 (hG : mr_Cl K cc nL ret fr lo Post h ad G) {a0 a1 a2 a3 : Value} {r : List Value} {z : Int} (hd : decode cc pc = .ok (.iinc 4 z, 3)) (hz : x + Int32.ofInt z = v) (kk : G (pc + 3) (a0 :: a1 :: a2 :: a3 :: .int v :: r) st fi ar) : G pc (a0 :: a1 :: a2 :: a3 :: .int x :: r) st fi ar := by
  obtain ⟨p, l, e, R, s, m, args, below, meth, c, A, D, cA, hok, hx, hb, hr, hk0, hm, hown, hts, hK, hD, hA, hR, rfl⟩ := hG
  intro ls H locs hl hP hS
  have hn : 4 < nL := by have h1 := hl.1; simp only [List.length_cons] at h1; omega
  have hm2 : ((4, Value.int x) : Nat × Value) ∈ mr_ix (a0 :: a1 :: a2 :: a3 :: .int x :: r) := mr_ix_mem.mpr ⟨rfl, rfl⟩
  obtain ⟨kq, hkq⟩ := List.getElem?_of_mem hm2
  exact lv_iinc hx hb hd (mr_has_lv hl) hkq hz hn rfl (fun ls' hl' => kk ls' H locs (mr_has_set hl rfl hl') hP hS)
theorem mr_iload5 (hG : mr_Cl K cc nL ret fr lo Post h ad G) {a0 a1 a2 a3 a4 : Value} {r : List Value} (hd : decode cc pc = .ok (.iload 5, 2)) (kk : G (pc + 2) (a0 :: a1 :: a2 :: a3 :: a4 :: .int x :: r) (.int x :: st) fi ar) : G pc (a0 :: a1 :: a2 :: a3 :: a4 :: .int x :: r) st fi ar := by
  obtain ⟨p, l, e, R, s, m, args, below, meth, c, A, D, cA, hok, hx, hb, hr, hk0, hm, hown, hts, hK, hD, hA, hR, rfl⟩ := hG
  intro ls H locs hl hP hS
  exact lv_iload hx hb hd (hl.2.2.2.1 5 (.int x) rfl rfl) (kk ls H locs hl hP hS)
theorem mr_istore5 (hG : mr_Cl K cc nL ret fr lo Post h ad G) {a0 a1 a2 a3 a4 : Value} {b : Value} {r : List Value} (hd : decode cc pc = .ok (.istore 5, 2)) (kk : G (pc + 2) (a0 :: a1 :: a2 :: a3 :: a4 :: .int x :: r) st fi ar) : G pc (a0 :: a1 :: a2 :: a3 :: a4 :: b :: r) (.int x :: st) fi ar := by
  obtain ⟨p, l, e, R, s, m, args, below, meth, c, A, D, cA, hok, hx, hb, hr, hk0, hm, hown, hts, hK, hD, hA, hR, rfl⟩ := hG
  intro ls H locs hl hP hS
  have hn : 5 < nL := by have h1 := hl.1; simp only [List.length_cons] at h1; omega
  exact lv_istore hx hb hd (mr_has_lv hl) hn rfl (fun ls' hl' => kk ls' H locs (mr_has_set hl rfl hl') hP hS)
theorem mr_iincS5 (hG : mr_Cl K cc nL ret fr lo Post h ad G) {a0 a1 a2 a3 a4 : Value} {r : List Value} {i : Nat} (hd : decode cc pc = .ok (.iinc 5 1, 3)) (kk : G (pc + 3) (a0 :: a1 :: a2 :: a3 :: a4 :: .int (nI (i + 1)) :: r) st fi ar) : G pc (a0 :: a1 :: a2 :: a3 :: a4 :: .int (nI i) :: r) st fi ar := by
  obtain ⟨p, l, e, R, s, m, args, below, meth, c, A, D, cA, hok, hx, hb, hr, hk0, hm, hown, hts, hK, hD, hA, hR, rfl⟩ := hG
  intro ls H locs hl hP hS
  have hn : 5 < nL := by have h1 := hl.1; simp only [List.length_cons] at h1; omega
  have hm2 : ((5, Value.int (nI i)) : Nat × Value) ∈ mr_ix (a0 :: a1 :: a2 :: a3 :: a4 :: .int (nI i) :: r) := mr_ix_mem.mpr ⟨rfl, rfl⟩
  obtain ⟨kq, hkq⟩ := List.getElem?_of_mem hm2
  exact lv_iinc hx hb hd (mr_has_lv hl) hkq (v := nI (i + 1)) (nI_1 i) hn rfl (fun ls' hl' => kk ls' H locs (mr_has_set hl rfl hl') hP hS)
theorem mr_iinc5 (hG : mr_Cl K cc nL ret fr lo Post h ad G) {a0 a1 a2 a3 a4 : Value} {r : List Value} {z : Int} (hd : decode cc pc = .ok (.iinc 5 z, 3)) (hz : x + Int32.ofInt z = v) (kk : G (pc + 3) (a0 :: a1 :: a2 :: a3 :: a4 :: .int v :: r) st fi ar) : G pc (a0 :: a1 :: a2 :: a3 :: a4 :: .int x :: r) st fi ar := by
  obtain ⟨p, l, e, R, s, m, args, below, meth, c, A, D, cA, hok, hx, hb, hr, hk0, hm, hown, hts, hK, hD, hA, hR, rfl⟩ := hG
  intro ls H locs hl hP hS
  have hn : 5 < nL := by have h1 := hl.1; simp only [List.length_cons] at h1; omega
  have hm2 : ((5, Value.int x) : Nat × Value) ∈ mr_ix (a0 :: a1 :: a2 :: a3 :: a4 :: .int x :: r) := mr_ix_mem.mpr ⟨rfl, rfl⟩
  obtain ⟨kq, hkq⟩ := List.getElem?_of_mem hm2
  exact lv_iinc hx hb hd (mr_has_lv hl) hkq hz hn rfl (fun ls' hl' => kk ls' H locs (mr_has_set hl rfl hl') hP hS)
theorem mr_iload6 (hG : mr_Cl K cc nL ret fr lo Post h ad G) {a0 a1 a2 a3 a4 a5 : Value} {r : List Value} (hd : decode cc pc = .ok (.iload 6, 2)) (kk : G (pc + 2) (a0 :: a1 :: a2 :: a3 :: a4 :: a5 :: .int x :: r) (.int x :: st) fi ar) : G pc (a0 :: a1 :: a2 :: a3 :: a4 :: a5 :: .int x :: r) st fi ar := by
  obtain ⟨p, l, e, R, s, m, args, below, meth, c, A, D, cA, hok, hx, hb, hr, hk0, hm, hown, hts, hK, hD, hA, hR, rfl⟩ := hG
  intro ls H locs hl hP hS
  exact lv_iload hx hb hd (hl.2.2.2.1 6 (.int x) rfl rfl) (kk ls H locs hl hP hS)
theorem mr_istore6 (hG : mr_Cl K cc nL ret fr lo Post h ad G) {a0 a1 a2 a3 a4 a5 : Value} {b : Value} {r : List Value} (hd : decode cc pc = .ok (.istore 6, 2)) (kk : G (pc + 2) (a0 :: a1 :: a2 :: a3 :: a4 :: a5 :: .int x :: r) st fi ar) : G pc (a0 :: a1 :: a2 :: a3 :: a4 :: a5 :: b :: r) (.int x :: st) fi ar := by
  obtain ⟨p, l, e, R, s, m, args, below, meth, c, A, D, cA, hok, hx, hb, hr, hk0, hm, hown, hts, hK, hD, hA, hR, rfl⟩ := hG
  intro ls H locs hl hP hS
  have hn : 6 < nL := by have h1 := hl.1; simp only [List.length_cons] at h1; omega
  exact lv_istore hx hb hd (mr_has_lv hl) hn rfl (fun ls' hl' => kk ls' H locs (mr_has_set hl rfl hl') hP hS)
theorem mr_iincS6 (hG : mr_Cl K cc nL ret fr lo Post h ad G) {a0 a1 a2 a3 a4 a5 : Value} {r : List Value} {i : Nat} (hd : decode cc pc = .ok (.iinc 6 1, 3)) (kk : G (pc + 3) (a0 :: a1 :: a2 :: a3 :: a4 :: a5 :: .int (nI (i + 1)) :: r) st fi ar) : G pc (a0 :: a1 :: a2 :: a3 :: a4 :: a5 :: .int (nI i) :: r) st fi ar := by
  obtain ⟨p, l, e, R, s, m, args, below, meth, c, A, D, cA, hok, hx, hb, hr, hk0, hm, hown, hts, hK, hD, hA, hR, rfl⟩ := hG
  intro ls H locs hl hP hS
  have hn : 6 < nL := by have h1 := hl.1; simp only [List.length_cons] at h1; omega
  have hm2 : ((6, Value.int (nI i)) : Nat × Value) ∈ mr_ix (a0 :: a1 :: a2 :: a3 :: a4 :: a5 :: .int (nI i) :: r) := mr_ix_mem.mpr ⟨rfl, rfl⟩
  obtain ⟨kq, hkq⟩ := List.getElem?_of_mem hm2
  exact lv_iinc hx hb hd (mr_has_lv hl) hkq (v := nI (i + 1)) (nI_1 i) hn rfl (fun ls' hl' => kk ls' H locs (mr_has_set hl rfl hl') hP hS)
theorem mr_iinc6 (hG : mr_Cl K cc nL ret fr lo Post h ad G) {a0 a1 a2 a3 a4 a5 : Value} {r : List Value} {z : Int} (hd : decode cc pc = .ok (.iinc 6 z, 3)) (hz : x + Int32.ofInt z = v) (kk : G (pc + 3) (a0 :: a1 :: a2 :: a3 :: a4 :: a5 :: .int v :: r) st fi ar) : G pc (a0 :: a1 :: a2 :: a3 :: a4 :: a5 :: .int x :: r) st fi ar := by
  obtain ⟨p, l, e, R, s, m, args, below, meth, c, A, D, cA, hok, hx, hb, hr, hk0, hm, hown, hts, hK, hD, hA, hR, rfl⟩ := hG
  intro ls H locs hl hP hS
  have hn : 6 < nL := by have h1 := hl.1; simp only [List.length_cons] at h1; omega
  have hm2 : ((6, Value.int x) : Nat × Value) ∈ mr_ix (a0 :: a1 :: a2 :: a3 :: a4 :: a5 :: .int x :: r) := mr_ix_mem.mpr ⟨rfl, rfl⟩
  obtain ⟨kq, hkq⟩ := List.getElem?_of_mem hm2
  exact lv_iinc hx hb hd (mr_has_lv hl) hkq hz hn rfl (fun ls' hl' => kk ls' H locs (mr_has_set hl rfl hl') hP hS)
theorem mr_iload7 (hG : mr_Cl K cc nL ret fr lo Post h ad G) {a0 a1 a2 a3 a4 a5 a6 : Value} {r : List Value} (hd : decode cc pc = .ok (.iload 7, 2)) (kk : G (pc + 2) (a0 :: a1 :: a2 :: a3 :: a4 :: a5 :: a6 :: .int x :: r) (.int x :: st) fi ar) : G pc (a0 :: a1 :: a2 :: a3 :: a4 :: a5 :: a6 :: .int x :: r) st fi ar := by
  obtain ⟨p, l, e, R, s, m, args, below, meth, c, A, D, cA, hok, hx, hb, hr, hk0, hm, hown, hts, hK, hD, hA, hR, rfl⟩ := hG
  intro ls H locs hl hP hS
  exact lv_iload hx hb hd (hl.2.2.2.1 7 (.int x) rfl rfl) (kk ls H locs hl hP hS)
theorem mr_istore7 (hG : mr_Cl K cc nL ret fr lo Post h ad G) {a0 a1 a2 a3 a4 a5 a6 : Value} {b : Value} {r : List Value} (hd : decode cc pc = .ok (.istore 7, 2)) (kk : G (pc + 2) (a0 :: a1 :: a2 :: a3 :: a4 :: a5 :: a6 :: .int x :: r) st fi ar) : G pc (a0 :: a1 :: a2 :: a3 :: a4 :: a5 :: a6 :: b :: r) (.int x :: st) fi ar := by
  obtain ⟨p, l, e, R, s, m, args, below, meth, c, A, D, cA, hok, hx, hb, hr, hk0, hm, hown, hts, hK, hD, hA, hR, rfl⟩ := hG
  intro ls H locs hl hP hS
  have hn : 7 < nL := by have h1 := hl.1; simp only [List.length_cons] at h1; omega
  exact lv_istore hx hb hd (mr_has_lv hl) hn rfl (fun ls' hl' => kk ls' H locs (mr_has_set hl rfl hl') hP hS)
theorem mr_iincS7 (hG : mr_Cl K cc nL ret fr lo Post h ad G) {a0 a1 a2 a3 a4 a5 a6 : Value} {r : List Value} {i : Nat} (hd : decode cc pc = .ok (.iinc 7 1, 3)) (kk : G (pc + 3) (a0 :: a1 :: a2 :: a3 :: a4 :: a5 :: a6 :: .int (nI (i + 1)) :: r) st fi ar) : G pc (a0 :: a1 :: a2 :: a3 :: a4 :: a5 :: a6 :: .int (nI i) :: r) st fi ar := by
  obtain ⟨p, l, e, R, s, m, args, below, meth, c, A, D, cA, hok, hx, hb, hr, hk0, hm, hown, hts, hK, hD, hA, hR, rfl⟩ := hG
  intro ls H locs hl hP hS
  have hn : 7 < nL := by have h1 := hl.1; simp only [List.length_cons] at h1; omega
  have hm2 : ((7, Value.int (nI i)) : Nat × Value) ∈ mr_ix (a0 :: a1 :: a2 :: a3 :: a4 :: a5 :: a6 :: .int (nI i) :: r) := mr_ix_mem.mpr ⟨rfl, rfl⟩
  obtain ⟨kq, hkq⟩ := List.getElem?_of_mem hm2
  exact lv_iinc hx hb hd (mr_has_lv hl) hkq (v := nI (i + 1)) (nI_1 i) hn rfl (fun ls' hl' => kk ls' H locs (mr_has_set hl rfl hl') hP hS)
theorem mr_iinc7 (hG : mr_Cl K cc nL ret fr lo Post h ad G) {a0 a1 a2 a3 a4 a5 a6 : Value} {r : List Value} {z : Int} (hd : decode cc pc = .ok (.iinc 7 z, 3)) (hz : x + Int32.ofInt z = v) (kk : G (pc + 3) (a0 :: a1 :: a2 :: a3 :: a4 :: a5 :: a6 :: .int v :: r) st fi ar) : G pc (a0 :: a1 :: a2 :: a3 :: a4 :: a5 :: a6 :: .int x :: r) st fi ar := by
  obtain ⟨p, l, e, R, s, m, args, below, meth, c, A, D, cA, hok, hx, hb, hr, hk0, hm, hown, hts, hK, hD, hA, hR, rfl⟩ := hG
  intro ls H locs hl hP hS
  have hn : 7 < nL := by have h1 := hl.1; simp only [List.length_cons] at h1; omega
  have hm2 : ((7, Value.int x) : Nat × Value) ∈ mr_ix (a0 :: a1 :: a2 :: a3 :: a4 :: a5 :: a6 :: .int x :: r) := mr_ix_mem.mpr ⟨rfl, rfl⟩
  obtain ⟨kq, hkq⟩ := List.getElem?_of_mem hm2
  exact lv_iinc hx hb hd (mr_has_lv hl) hkq hz hn rfl (fun ls' hl' => kk ls' H locs (mr_has_set hl rfl hl') hP hS)
theorem mr_iload8 (hG : mr_Cl K cc nL ret fr lo Post h ad G) {a0 a1 a2 a3 a4 a5 a6 a7 : Value} {r : List Value} (hd : decode cc pc = .ok (.iload 8, 2)) (kk : G (pc + 2) (a0 :: a1 :: a2 :: a3 :: a4 :: a5 :: a6 :: a7 :: .int x :: r) (.int x :: st) fi ar) : G pc (a0 :: a1 :: a2 :: a3 :: a4 :: a5 :: a6 :: a7 :: .int x :: r) st fi ar := by
  obtain ⟨p, l, e, R, s, m, args, below, meth, c, A, D, cA, hok, hx, hb, hr, hk0, hm, hown, hts, hK, hD, hA, hR, rfl⟩ := hG
  intro ls H locs hl hP hS
  exact lv_iload hx hb hd (hl.2.2.2.1 8 (.int x) rfl rfl) (kk ls H locs hl hP hS)
theorem mr_istore8 (hG : mr_Cl K cc nL ret fr lo Post h ad G) {a0 a1 a2 a3 a4 a5 a6 a7 : Value} {b : Value} {r : List Value} (hd : decode cc pc = .ok (.istore 8, 2)) (kk : G (pc + 2) (a0 :: a1 :: a2 :: a3 :: a4 :: a5 :: a6 :: a7 :: .int x :: r) st fi ar) : G pc (a0 :: a1 :: a2 :: a3 :: a4 :: a5 :: a6 :: a7 :: b :: r) (.int x :: st) fi ar := by
  obtain ⟨p, l, e, R, s, m, args, below, meth, c, A, D, cA, hok, hx, hb, hr, hk0, hm, hown, hts, hK, hD, hA, hR, rfl⟩ := hG
  intro ls H locs hl hP hS
  have hn : 8 < nL := by have h1 := hl.1; simp only [List.length_cons] at h1; omega
  exact lv_istore hx hb hd (mr_has_lv hl) hn rfl (fun ls' hl' => kk ls' H locs (mr_has_set hl rfl hl') hP hS)
theorem mr_iincS8 (hG : mr_Cl K cc nL ret fr lo Post h ad G) {a0 a1 a2 a3 a4 a5 a6 a7 : Value} {r : List Value} {i : Nat} (hd : decode cc pc = .ok (.iinc 8 1, 3)) (kk : G (pc + 3) (a0 :: a1 :: a2 :: a3 :: a4 :: a5 :: a6 :: a7 :: .int (nI (i + 1)) :: r) st fi ar) : G pc (a0 :: a1 :: a2 :: a3 :: a4 :: a5 :: a6 :: a7 :: .int (nI i) :: r) st fi ar := by
  obtain ⟨p, l, e, R, s, m, args, below, meth, c, A, D, cA, hok, hx, hb, hr, hk0, hm, hown, hts, hK, hD, hA, hR, rfl⟩ := hG
  intro ls H locs hl hP hS
  have hn : 8 < nL := by have h1 := hl.1; simp only [List.length_cons] at h1; omega
  have hm2 : ((8, Value.int (nI i)) : Nat × Value) ∈ mr_ix (a0 :: a1 :: a2 :: a3 :: a4 :: a5 :: a6 :: a7 :: .int (nI i) :: r) := mr_ix_mem.mpr ⟨rfl, rfl⟩
  obtain ⟨kq, hkq⟩ := List.getElem?_of_mem hm2
  exact lv_iinc hx hb hd (mr_has_lv hl) hkq (v := nI (i + 1)) (nI_1 i) hn rfl (fun ls' hl' => kk ls' H locs (mr_has_set hl rfl hl') hP hS)
theorem mr_iinc8 (hG : mr_Cl K cc nL ret fr lo Post h ad G) {a0 a1 a2 a3 a4 a5 a6 a7 : Value} {r : List Value} {z : Int} (hd : decode cc pc = .ok (.iinc 8 z, 3)) (hz : x + Int32.ofInt z = v) (kk : G (pc + 3) (a0 :: a1 :: a2 :: a3 :: a4 :: a5 :: a6 :: a7 :: .int v :: r) st fi ar) : G pc (a0 :: a1 :: a2 :: a3 :: a4 :: a5 :: a6 :: a7 :: .int x :: r) st fi ar := by
  obtain ⟨p, l, e, R, s, m, args, below, meth, c, A, D, cA, hok, hx, hb, hr, hk0, hm, hown, hts, hK, hD, hA, hR, rfl⟩ := hG
  intro ls H locs hl hP hS
  have hn : 8 < nL := by have h1 := hl.1; simp only [List.length_cons] at h1; omega
  have hm2 : ((8, Value.int x) : Nat × Value) ∈ mr_ix (a0 :: a1 :: a2 :: a3 :: a4 :: a5 :: a6 :: a7 :: .int x :: r) := mr_ix_mem.mpr ⟨rfl, rfl⟩
  obtain ⟨kq, hkq⟩ := List.getElem?_of_mem hm2
  exact lv_iinc hx hb hd (mr_has_lv hl) hkq hz hn rfl (fun ls' hl' => kk ls' H locs (mr_has_set hl rfl hl') hP hS)
theorem mr_iload9 (hG : mr_Cl K cc nL ret fr lo Post h ad G) {a0 a1 a2 a3 a4 a5 a6 a7 a8 : Value} {r : List Value} (hd : decode cc pc = .ok (.iload 9, 2)) (kk : G (pc + 2) (a0 :: a1 :: a2 :: a3 :: a4 :: a5 :: a6 :: a7 :: a8 :: .int x :: r) (.int x :: st) fi ar) : G pc (a0 :: a1 :: a2 :: a3 :: a4 :: a5 :: a6 :: a7 :: a8 :: .int x :: r) st fi ar := by
  obtain ⟨p, l, e, R, s, m, args, below, meth, c, A, D, cA, hok, hx, hb, hr, hk0, hm, hown, hts, hK, hD, hA, hR, rfl⟩ := hG
  intro ls H locs hl hP hS
  exact lv_iload hx hb hd (hl.2.2.2.1 9 (.int x) rfl rfl) (kk ls H locs hl hP hS)
theorem mr_istore9 (hG : mr_Cl K cc nL ret fr lo Post h ad G) {a0 a1 a2 a3 a4 a5 a6 a7 a8 : Value} {b : Value} {r : List Value} (hd : decode cc pc = .ok (.istore 9, 2)) (kk : G (pc + 2) (a0 :: a1 :: a2 :: a3 :: a4 :: a5 :: a6 :: a7 :: a8 :: .int x :: r) st fi ar) : G pc (a0 :: a1 :: a2 :: a3 :: a4 :: a5 :: a6 :: a7 :: a8 :: b :: r) (.int x :: st) fi ar := by
  obtain ⟨p, l, e, R, s, m, args, below, meth, c, A, D, cA, hok, hx, hb, hr, hk0, hm, hown, hts, hK, hD, hA, hR, rfl⟩ := hG
  intro ls H locs hl hP hS
  have hn : 9 < nL := by have h1 := hl.1; simp only [List.length_cons] at h1; omega
  exact lv_istore hx hb hd (mr_has_lv hl) hn rfl (fun ls' hl' => kk ls' H locs (mr_has_set hl rfl hl') hP hS)
theorem mr_iincS9 (hG : mr_Cl K cc nL ret fr lo Post h ad G) {a0 a1 a2 a3 a4 a5 a6 a7 a8 : Value} {r : List Value} {i : Nat} (hd : decode cc pc = .ok (.iinc 9 1, 3)) (kk : G (pc + 3) (a0 :: a1 :: a2 :: a3 :: a4 :: a5 :: a6 :: a7 :: a8 :: .int (nI (i + 1)) :: r) st fi ar) : G pc (a0 :: a1 :: a2 :: a3 :: a4 :: a5 :: a6 :: a7 :: a8 :: .int (nI i) :: r) st fi ar := by
  obtain ⟨p, l, e, R, s, m, args, below, meth, c, A, D, cA, hok, hx, hb, hr, hk0, hm, hown, hts, hK, hD, hA, hR, rfl⟩ := hG
  intro ls H locs hl hP hS
  have hn : 9 < nL := by have h1 := hl.1; simp only [List.length_cons] at h1; omega
  have hm2 : ((9, Value.int (nI i)) : Nat × Value) ∈ mr_ix (a0 :: a1 :: a2 :: a3 :: a4 :: a5 :: a6 :: a7 :: a8 :: .int (nI i) :: r) := mr_ix_mem.mpr ⟨rfl, rfl⟩
  obtain ⟨kq, hkq⟩ := List.getElem?_of_mem hm2
  exact lv_iinc hx hb hd (mr_has_lv hl) hkq (v := nI (i + 1)) (nI_1 i) hn rfl (fun ls' hl' => kk ls' H locs (mr_has_set hl rfl hl') hP hS)
theorem mr_iinc9 (hG : mr_Cl K cc nL ret fr lo Post h ad G) {a0 a1 a2 a3 a4 a5 a6 a7 a8 : Value} {r : List Value} {z : Int} (hd : decode cc pc = .ok (.iinc 9 z, 3)) (hz : x + Int32.ofInt z = v) (kk : G (pc + 3) (a0 :: a1 :: a2 :: a3 :: a4 :: a5 :: a6 :: a7 :: a8 :: .int v :: r) st fi ar) : G pc (a0 :: a1 :: a2 :: a3 :: a4 :: a5 :: a6 :: a7 :: a8 :: .int x :: r) st fi ar := by
  obtain ⟨p, l, e, R, s, m, args, below, meth, c, A, D, cA, hok, hx, hb, hr, hk0, hm, hown, hts, hK, hD, hA, hR, rfl⟩ := hG
  intro ls H locs hl hP hS
  have hn : 9 < nL := by have h1 := hl.1; simp only [List.length_cons] at h1; omega
  have hm2 : ((9, Value.int x) : Nat × Value) ∈ mr_ix (a0 :: a1 :: a2 :: a3 :: a4 :: a5 :: a6 :: a7 :: a8 :: .int x :: r) := mr_ix_mem.mpr ⟨rfl, rfl⟩
  obtain ⟨kq, hkq⟩ := List.getElem?_of_mem hm2
  exact lv_iinc hx hb hd (mr_has_lv hl) hkq hz hn rfl (fun ls' hl' => kk ls' H locs (mr_has_set hl rfl hl') hP hS)
end Rows
/-- a CONTRACT of a method of one object: from the fields fi and arrays ar, with the arguments avs, it returns with Post answer fields arrays (answer 0 where it has none); nothing else changes -/
def mr_Con (K : mr_Kd) (y : MethodName) (cc : ByteArray) (nL : Nat) (ret : Option FieldType) (fr lo : Nat) (avs : List Value) (fi : Nat → Int32) (ar : Nat → Nat → Int32) (Post : mr_PT) : Prop := ∀ (l : Launch) (D : va_G) (h : Nat) (ad : Nat → Nat) (cA : Nat → ClassId) (sz : Nat), Met l y (ws_ y cc nL ret) { frames := fr, cells := 0, slots := 0, locals := lo } (va_Pc (.ref h :: avs) (fun U => U.heap.size = sz ∧ va_P D vwCl (mr_ws K h ad cA fi ar) U.heap ∧ va_K D vwCl (mr_tys K cA) U ∧ va_D (fun _ => True) (mr_ws K h ad cA fi ar))) (mr_Q ret Post (mr_B K h ad cA D (va_A (mr_ws K h ad cA fi ar) sz)) (va_A (mr_ws K h ad cA fi ar) sz)) 0 0 (va_A (mr_ws K h ad cA fi ar) sz)
def mr_av (v : Value) : Bool := match v with
  | .int _ => true
  | .ref _ => true
  | _ => false
theorem mr_av_cat {v : Value} (h : mr_av v = true) : v.category = 1 := by
  cases v <;> first | rfl | cases h
theorem mr_args_mem : ∀ (vs : List Value) (b : Nat), vs.all mr_av = true → ∀ (i : Nat) (v : Value), vs[i]? = some v → (b + i, v) ∈ lv_args b vs
  | [], b, _, i, v, h => by simp at h
  | w :: vs, b, ha, i, v, h => by
    simp only [List.all_cons, Bool.and_eq_true] at ha
    cases i with
    | zero =>
      rw [List.getElem?_cons_zero] at h
      cases h
      exact List.mem_cons_self
    | succ i =>
      rw [List.getElem?_cons_succ] at h
      have hc : w.category = 1 := mr_av_cat ha.1
      have h2 := mr_args_mem vs (b + 1) ha.2 i v h
      have e : b + 1 + i = b + (i + 1) := by omega
      rw [e] at h2
      unfold lv_args
      rw [if_neg (by omega)]
      exact List.mem_cons_of_mem _ h2
theorem mr_sl_len : ∀ (vs : List Value), vs.all mr_av = true → (lg_sl vs).length = vs.length
  | [], _ => rfl
  | w :: vs, ha => by
    simp only [List.all_cons, Bool.and_eq_true] at ha
    have h2 := mr_sl_len vs ha.2
    cases w with
    | int _ => simp [lg_sl, Value.category] at h2 ⊢; omega
    | ref _ => simp [lg_sl, Value.category] at h2 ⊢; omega
    | _ => cases ha.1
theorem mr_con {K : mr_Kd} {y : MethodName} {cc : ByteArray} {nL : Nat} {ret : Option FieldType} {fr lo : Nat} {avs : List Value} {fi : Nat → Int32} {ar : Nat → Nat → Int32} {Post : mr_PT} (hok : mr_ok K) (hy : plainName y.cls = true) (hcls : y.cls = K.1) (k : Nat) (hlen : avs.length + 1 + k = nL) (hav : avs.all mr_av = true) (body : ∀ (h : Nat) (ad : Nat → Nat) (G : mr_GT), mr_Cl K cc nL ret fr lo Post h ad G → G 0 (.ref h :: (avs ++ List.replicate k .null)) [] fi ar) : mr_Con K y cc nL ret fr lo avs fi ar Post := by
  intro l D h ad cA sz
  refine Met.ofW (cc := cc) (maxL := nL) (ret := ret) hy rfl ?_
  intro p e s m args below meth c s₁ B hml hv
  obtain ⟨rfl, hsz, hP, hK, hD0⟩ := hv
  have hx := B.exec
  have hb := B.bytes
  have hr := B.returns
  have hts := atoms_spec (ws := ws_ y cc nL ret) B.pre
  have hts : ∀ w ∈ lw_all, w.before _ s = true := fun w h => hts w (List.mem_cons_of_mem _ h)
  have hown : s.vm.findClass K.1 = some m.cls := by rw [← hcls]; exact findClass_of_methodNamed B.named
  have hlocks := B.notSynchronized
  subst hsz
  have hD := hD0.self (sz := s.heap.size)
  generalize hAe : va_A (mr_ws K h ad cA fi ar) s.heap.size = A at hD ⊢
  have hA : ∀ q : Nat, s.heap.size ≤ q → A q := fun q h => by rw [← hAe]; exact Or.inr h
  have hS : va_S A s.heap s.heap [] := va_S.rf
  have hall : (Value.ref h :: avs).all mr_av = true := by rw [List.all_cons, hav]; rfl
  have hsl := mr_sl_len (.ref h :: avs) hall
  have hle : (lg_sl (.ref h :: avs)).length ≤ nL := by rw [hsl, List.length_cons]; omega
  have hl := lv_entry (.ref h :: avs) (n := nL) hle
  rw [lg_entry_eq]
  generalize (lg_sl (.ref h :: avs) ++ List.replicate (nL - (lg_sl (.ref h :: avs)).length) Slot.unset).toArray = ls at hl ⊢
  have hl2 : mr_has ls nL (.ref h :: (avs ++ List.replicate k .null)) := by
    refine ⟨by simp only [List.length_cons, List.length_append, List.length_replicate]; omega, hl.1, hl.2.1, fun i v hi hn => ?_, fun v hv => ?_⟩
    · rw [← List.cons_append] at hi
      by_cases hlt : i < (Value.ref h :: avs).length
      · rw [List.getElem?_append_left hlt] at hi
        have h2 := mr_args_mem (.ref h :: avs) 0 hall i v hi
        rw [Nat.zero_add] at h2
        exact hl.2.2 (i, v) h2
      · rw [List.getElem?_append_right (by omega)] at hi
        have h3 := List.mem_of_getElem? hi
        rw [(List.mem_replicate.mp h3).2] at hn
        cases hn
    · rw [← List.cons_append] at hv
      rcases List.mem_append.mp hv with h1 | h1
      · exact mr_av_cat (List.all_eq_true.mp hall v h1)
      · rw [(List.mem_replicate.mp h1).2]; rfl
  exact body h ad _ ⟨p, l, e, _, s, m, _, below, meth, c, A, D, cA, hok, hx, hb, hr, hlocks, hml, hown, hts, hK, fun fi' ar' => mr_D_any hD, hA, rfl, rfl⟩ ls s.heap [] hl2 hP hS
section CallRows
variable {K : mr_Kd} {cc : ByteArray} {nL fr lo h pc : Nat} {ret : Option FieldType} {Post : mr_PT} {ad : Nat → Nat} {G : mr_GT} {lv st rest : List Value} {fi : Nat → Int32} {ar : Nat → Nat → Int32} {y : MethodName} {cy : ByteArray} {nLy fry loy idx : Nat} {ty : FieldType} {avs : List Value} {Post' : mr_PT}
def mr_callok (K : mr_Kd) (y : MethodName) (avs : List Value) : Prop := y.cls = K.1 ∧ y.cls ≠ "java/lang/invoke/MethodHandle" ∧ y.cls ≠ "java/lang/invoke/VarHandle" ∧ (parseMethodDescriptor y.desc).map (fun d => d.parameters.length) = some avs.length
theorem mr_calli (hG : mr_Cl K cc nL ret fr lo Post h ad G) (hC : mr_Con K y cy nLy (some ty) fry loy avs fi ar Post') (hw : GoodIn lw_all (wsV K.1 idx K.1 y (ws_ y cy nLy (some ty)))) (hcl : mr_callok K y avs) (hroom : fry + 1 ≤ fr ∧ 8 + (nLy + 11) + loy ≤ lo) (hst : st = avs.reverse ++ .ref h :: rest) (hrest : (rest.map fun v => v.category).sum ≤ 8) (hd : decode cc pc = .ok (.invokevirtual idx, 3)) (kk : ∀ (r : Int32) (fi' : Nat → Int32) (ar' : Nat → Nat → Int32), Post' r fi' ar' → G (pc + 3) lv (.int r :: rest) fi' ar') : G pc lv st fi ar := by
  obtain ⟨p, l, e, R, s, m, args, below, meth, c, A, D, cA, hok, hx, hb, hr, hk0, hm, hown, hts, hK, hD, hA, hR, rfl⟩ := hG
  intro ls H locs hl hP hS
  subst hst
  subst hR
  have hF : ∀ q, va_A (mr_ws K h ad cA fi ar) H.size q → A q := by
    intro q hq
    rcases hq with ⟨k, e', hq⟩ | hq
    · exact (hD fi ar).2 k _ hq
    · exact hA q (Nat.le_trans hS.1 hq)
  refine va_calli (va_runV (As := avs) (rest := rest) ⟨hx, hb, hm, hown, hts⟩ (hC l D h ad cA H.size) (cwV avs.length hts hw rfl rfl rfl hcl hroom) ⟨fun a U g mk q => by obtain ⟨q0, q1, qP, qK, qD⟩ := q; exact ⟨q0, q1, qP, va_K.moved (u := U) (U := U.calling g mk a) (Vm.Alike.refl U.vm) qK, qD⟩, va_recv hK hP (ci := K.2.2.2.1) (q0 := 0) hok.2.1 mr_ws_0, fun U hU hW => ⟨rfl, by rw [hU], by rw [hU]; exact hP, va_K.moved hW.alike hK, (hD fi ar).weaken (fun _ _ _ _ => trivial)⟩⟩ rfl rfl hl.2.1 rfl (lv_room hrest) hd ⟨Nat.le_refl 0, Nat.le_refl 0⟩) hS (fun q _ hq => hF q hq) hF (fun r u t H1 locs1 ht hvm hpost hB hz1 hk1 hS1 => ?_)
  obtain ⟨fi', ar'⟩ := u
  obtain ⟨hP1, -, -⟩ := hB
  rw [ht] at hP1
  exact kk r fi' ar' hpost ls H1 locs1 hl hP1 hS1
theorem mr_callv (hG : mr_Cl K cc nL ret fr lo Post h ad G) (hC : mr_Con K y cy nLy none fry loy avs fi ar Post') (hw : GoodIn lw_all (wsV K.1 idx K.1 y (ws_ y cy nLy none))) (hcl : mr_callok K y avs) (hroom : fry + 1 ≤ fr ∧ 8 + (nLy + 11) + loy ≤ lo) (hst : st = avs.reverse ++ .ref h :: rest) (hrest : (rest.map fun v => v.category).sum ≤ 8) (hd : decode cc pc = .ok (.invokevirtual idx, 3)) (kk : ∀ (fi' : Nat → Int32) (ar' : Nat → Nat → Int32), Post' 0 fi' ar' → G (pc + 3) lv rest fi' ar') : G pc lv st fi ar := by
  obtain ⟨p, l, e, R, s, m, args, below, meth, c, A, D, cA, hok, hx, hb, hr, hk0, hm, hown, hts, hK, hD, hA, hR, rfl⟩ := hG
  intro ls H locs hl hP hS
  subst hst
  subst hR
  have hF : ∀ q, va_A (mr_ws K h ad cA fi ar) H.size q → A q := by
    intro q hq
    rcases hq with ⟨k, e', hq⟩ | hq
    · exact (hD fi ar).2 k _ hq
    · exact hA q (Nat.le_trans hS.1 hq)
  refine va_callv (va_runV (As := avs) (rest := rest) ⟨hx, hb, hm, hown, hts⟩ (hC l D h ad cA H.size) (cwV avs.length hts hw rfl rfl rfl hcl hroom) ⟨fun a U g mk q => by obtain ⟨q0, q1, qP, qK, qD⟩ := q; exact ⟨q0, q1, qP, va_K.moved (u := U) (U := U.calling g mk a) (Vm.Alike.refl U.vm) qK, qD⟩, va_recv hK hP (ci := K.2.2.2.1) (q0 := 0) hok.2.1 mr_ws_0, fun U hU hW => ⟨rfl, by rw [hU], by rw [hU]; exact hP, va_K.moved hW.alike hK, (hD fi ar).weaken (fun _ _ _ _ => trivial)⟩⟩ rfl rfl hl.2.1 rfl (lv_room hrest) hd ⟨Nat.le_refl 0, Nat.le_refl 0⟩) hS (fun q _ hq => hF q hq) hF (fun u t H1 locs1 ht hvm hpost hB hz1 hk1 hS1 => ?_)
  obtain ⟨fi', ar'⟩ := u
  obtain ⟨hP1, -, -⟩ := hB
  rw [ht] at hP1
  exact kk fi' ar' hpost ls H1 locs1 hl hP1 hS1
end CallRows
def K1 : mr_Kd := (RX1, TX1, 28, 0, [(2, 4, .byte), (3, 64, .int), (4, 64, .int), (10, 4, .byte), (11, 4, .byte), (14, 8, .byte), (15, 8, .int), (19, 64, .byte), (20, 64, .int), (21, 160, .byte), (22, 32, .byte), (23, 32, .byte), (24, 5, .byte), (25, 16, .byte), (26, 16, .int)])
theorem ok1 : mr_ok K1 := by
  refine ⟨in_X1, rfl, ⟨tyX1, tyX1_ok⟩, nmX1, ?_⟩
  intro i j a b hi hj hab
  have key : ∀ (i : Nat) (a : Nat × Nat × FieldType), K1.2.2.2.2[i]? = some a → i < 15 := fun i a h => (List.getElem?_eq_some_iff.mp h).1
  have hi1 := key i a hi
  have hj1 := key j b hj
  have h1 : (K1.2.2.2.2.map (fun a => a.1))[i]? = some a.1 := by rw [List.getElem?_map, hi]; rfl
  have h2 : (K1.2.2.2.2.map (fun a => a.1))[j]? = some a.1 := by rw [List.getElem?_map, hj, hab]; rfl
  exact va_nd_inj (K1.2.2.2.2.map (fun a => a.1)) (by decide +kernel) i j a.1 h1 h2
section Fields1
variable {cc : ByteArray} {nL fr lo h pc : Nat} {ret : Option FieldType} {Post : mr_PT} {ad : Nat → Nat} {G : mr_GT} {lv st : List Value} {fi : Nat → Int32} {ar : Nat → Nat → Int32} {x y v : Int32}
/-- field 0: partCount -/
theorem f1_get_0 (hG : mr_Cl K1 cc nL ret fr lo Post h ad G) (hd : decode cc pc = .ok (.getfield 56, 3)) (kk : G (pc + 3) lv (.int (fi 0) :: st) fi ar) : G pc lv (.ref h :: st) fi ar := mr_getI hG 0 (by decide) (by decide +kernel) (by exact q29) hd kk
theorem f1_put_0 (hG : mr_Cl K1 cc nL ret fr lo Post h ad G) (hd : decode cc pc = .ok (.putfield 56, 3)) (kk : G (pc + 3) lv st (upd fi 0 x) ar) : G pc lv (.int x :: .ref h :: st) fi ar := mr_putI hG 0 (by decide) (by decide +kernel) (by exact q29) rfl (by decide +kernel) hd kk
/-- field 1: bufferSize -/
theorem f1_get_1 (hG : mr_Cl K1 cc nL ret fr lo Post h ad G) (hd : decode cc pc = .ok (.getfield 60, 3)) (kk : G (pc + 3) lv (.int (fi 1) :: st) fi ar) : G pc lv (.ref h :: st) fi ar := mr_getI hG 1 (by decide) (by decide +kernel) (by exact q30) hd kk
theorem f1_put_1 (hG : mr_Cl K1 cc nL ret fr lo Post h ad G) (hd : decode cc pc = .ok (.putfield 60, 3)) (kk : G (pc + 3) lv st (upd fi 1 x) ar) : G pc lv (.int x :: .ref h :: st) fi ar := mr_putI hG 1 (by decide) (by decide +kernel) (by exact q30) rfl (by decide +kernel) hd kk
/-- field 2: recordCount -/
theorem f1_get_2 (hG : mr_Cl K1 cc nL ret fr lo Post h ad G) (hd : decode cc pc = .ok (.getfield 7, 3)) (kk : G (pc + 3) lv (.ref (ad 2) :: st) fi ar) : G pc lv (.ref h :: st) fi ar := mr_getA hG 2 (by decide) (by decide +kernel) (by exact q31) hd kk
theorem f1_ld_2 (hG : mr_Cl K1 cc nL ret fr lo Post h ad G) (hd : decode cc pc = .ok (.baload, 1)) (i : Nat) (hi : x = nI i) (hlt : i < 4) (kk : G (pc + 1) lv (.int (ar 2 i) :: st) fi ar) : G pc lv (.int x :: .ref (ad 2) :: st) fi ar := mr_bald hG 0 2 4 rfl (by decide) hd i hi hlt kk
theorem f1_st_2 (hG : mr_Cl K1 cc nL ret fr lo Post h ad G) (hd : decode cc pc = .ok (.bastore, 1)) (i : Nat) (hi : y = nI i) (hlt : i < 4) (hv : vp_nar .byte x = v) (kk : G (pc + 1) lv st fi (ua ar 2 i v)) : G pc lv (.int x :: .int y :: .ref (ad 2) :: st) fi ar := mr_bast hG 0 2 4 rfl (by decide) hd i hi hlt hv kk
/-- field 3: recordKey -/
theorem f1_get_3 (hG : mr_Cl K1 cc nL ret fr lo Post h ad G) (hd : decode cc pc = .ok (.getfield 13, 3)) (kk : G (pc + 3) lv (.ref (ad 3) :: st) fi ar) : G pc lv (.ref h :: st) fi ar := mr_getA hG 3 (by decide) (by decide +kernel) (by exact q32) hd kk
theorem f1_ld_3 (hG : mr_Cl K1 cc nL ret fr lo Post h ad G) (hd : decode cc pc = .ok (.iaload, 1)) (i : Nat) (hi : x = nI i) (hlt : i < 64) (kk : G (pc + 1) lv (.int (ar 3 i) :: st) fi ar) : G pc lv (.int x :: .ref (ad 3) :: st) fi ar := mr_iald hG 1 3 64 rfl (by decide) hd i hi hlt kk
theorem f1_st_3 (hG : mr_Cl K1 cc nL ret fr lo Post h ad G) (hd : decode cc pc = .ok (.iastore, 1)) (i : Nat) (hi : y = nI i) (hlt : i < 64) (hv : x = v) (kk : G (pc + 1) lv st fi (ua ar 3 i v)) : G pc lv (.int x :: .int y :: .ref (ad 3) :: st) fi ar := mr_iast hG 1 3 64 rfl (by decide) hd i hi hlt hv kk
/-- field 4: recordValue -/
theorem f1_get_4 (hG : mr_Cl K1 cc nL ret fr lo Post h ad G) (hd : decode cc pc = .ok (.getfield 17, 3)) (kk : G (pc + 3) lv (.ref (ad 4) :: st) fi ar) : G pc lv (.ref h :: st) fi ar := mr_getA hG 4 (by decide) (by decide +kernel) (by exact q33) hd kk
theorem f1_ld_4 (hG : mr_Cl K1 cc nL ret fr lo Post h ad G) (hd : decode cc pc = .ok (.iaload, 1)) (i : Nat) (hi : x = nI i) (hlt : i < 64) (kk : G (pc + 1) lv (.int (ar 4 i) :: st) fi ar) : G pc lv (.int x :: .ref (ad 4) :: st) fi ar := mr_iald hG 2 4 64 rfl (by decide) hd i hi hlt kk
theorem f1_st_4 (hG : mr_Cl K1 cc nL ret fr lo Post h ad G) (hd : decode cc pc = .ok (.iastore, 1)) (i : Nat) (hi : y = nI i) (hlt : i < 64) (hv : x = v) (kk : G (pc + 1) lv st fi (ua ar 4 i v)) : G pc lv (.int x :: .int y :: .ref (ad 4) :: st) fi ar := mr_iast hG 2 4 64 rfl (by decide) hd i hi hlt hv kk
/-- field 5: modulus -/
theorem f1_get_5 (hG : mr_Cl K1 cc nL ret fr lo Post h ad G) (hd : decode cc pc = .ok (.getfield 63, 3)) (kk : G (pc + 3) lv (.int (fi 5) :: st) fi ar) : G pc lv (.ref h :: st) fi ar := mr_getI hG 5 (by decide) (by decide +kernel) (by exact q34) hd kk
theorem f1_put_5 (hG : mr_Cl K1 cc nL ret fr lo Post h ad G) (hd : decode cc pc = .ok (.putfield 63, 3)) (kk : G (pc + 3) lv st (upd fi 5 x) ar) : G pc lv (.int x :: .ref h :: st) fi ar := mr_putI hG 5 (by decide) (by decide +kernel) (by exact q34) rfl (by decide +kernel) hd kk
/-- field 6: factor -/
theorem f1_get_6 (hG : mr_Cl K1 cc nL ret fr lo Post h ad G) (hd : decode cc pc = .ok (.getfield 66, 3)) (kk : G (pc + 3) lv (.int (fi 6) :: st) fi ar) : G pc lv (.ref h :: st) fi ar := mr_getI hG 6 (by decide) (by decide +kernel) (by exact q35) hd kk
theorem f1_put_6 (hG : mr_Cl K1 cc nL ret fr lo Post h ad G) (hd : decode cc pc = .ok (.putfield 66, 3)) (kk : G (pc + 3) lv st (upd fi 6 x) ar) : G pc lv (.int x :: .ref h :: st) fi ar := mr_putI hG 6 (by decide) (by decide +kernel) (by exact q35) rfl (by decide +kernel) hd kk
/-- field 7: offset -/
theorem f1_get_7 (hG : mr_Cl K1 cc nL ret fr lo Post h ad G) (hd : decode cc pc = .ok (.getfield 77, 3)) (kk : G (pc + 3) lv (.int (fi 7) :: st) fi ar) : G pc lv (.ref h :: st) fi ar := mr_getI hG 7 (by decide) (by decide +kernel) (by exact q36) hd kk
theorem f1_put_7 (hG : mr_Cl K1 cc nL ret fr lo Post h ad G) (hd : decode cc pc = .ok (.putfield 77, 3)) (kk : G (pc + 3) lv st (upd fi 7 x) ar) : G pc lv (.int x :: .ref h :: st) fi ar := mr_putI hG 7 (by decide) (by decide +kernel) (by exact q36) rfl (by decide +kernel) hd kk
/-- field 8: lowest -/
theorem f1_get_8 (hG : mr_Cl K1 cc nL ret fr lo Post h ad G) (hd : decode cc pc = .ok (.getfield 70, 3)) (kk : G (pc + 3) lv (.int (fi 8) :: st) fi ar) : G pc lv (.ref h :: st) fi ar := mr_getI hG 8 (by decide) (by decide +kernel) (by exact q37) hd kk
theorem f1_put_8 (hG : mr_Cl K1 cc nL ret fr lo Post h ad G) (hd : decode cc pc = .ok (.putfield 70, 3)) (kk : G (pc + 3) lv st (upd fi 8 x) ar) : G pc lv (.int x :: .ref h :: st) fi ar := mr_putI hG 8 (by decide) (by decide +kernel) (by exact q37) rfl (by decide +kernel) hd kk
/-- field 9: highest -/
theorem f1_get_9 (hG : mr_Cl K1 cc nL ret fr lo Post h ad G) (hd : decode cc pc = .ok (.getfield 74, 3)) (kk : G (pc + 3) lv (.int (fi 9) :: st) fi ar) : G pc lv (.ref h :: st) fi ar := mr_getI hG 9 (by decide) (by decide +kernel) (by exact q38) hd kk
theorem f1_put_9 (hG : mr_Cl K1 cc nL ret fr lo Post h ad G) (hd : decode cc pc = .ok (.putfield 74, 3)) (kk : G (pc + 3) lv st (upd fi 9 x) ar) : G pc lv (.int x :: .ref h :: st) fi ar := mr_putI hG 9 (by decide) (by decide +kernel) (by exact q38) rfl (by decide +kernel) hd kk
/-- field 10: mapFailures -/
theorem f1_get_10 (hG : mr_Cl K1 cc nL ret fr lo Post h ad G) (hd : decode cc pc = .ok (.getfield 20, 3)) (kk : G (pc + 3) lv (.ref (ad 10) :: st) fi ar) : G pc lv (.ref h :: st) fi ar := mr_getA hG 10 (by decide) (by decide +kernel) (by exact q39) hd kk
theorem f1_ld_10 (hG : mr_Cl K1 cc nL ret fr lo Post h ad G) (hd : decode cc pc = .ok (.baload, 1)) (i : Nat) (hi : x = nI i) (hlt : i < 4) (kk : G (pc + 1) lv (.int (ar 10 i) :: st) fi ar) : G pc lv (.int x :: .ref (ad 10) :: st) fi ar := mr_bald hG 3 10 4 rfl (by decide) hd i hi hlt kk
theorem f1_st_10 (hG : mr_Cl K1 cc nL ret fr lo Post h ad G) (hd : decode cc pc = .ok (.bastore, 1)) (i : Nat) (hi : y = nI i) (hlt : i < 4) (hv : vp_nar .byte x = v) (kk : G (pc + 1) lv st fi (ua ar 10 i v)) : G pc lv (.int x :: .int y :: .ref (ad 10) :: st) fi ar := mr_bast hG 3 10 4 rfl (by decide) hd i hi hlt hv kk
/-- field 11: reduceFailures -/
theorem f1_get_11 (hG : mr_Cl K1 cc nL ret fr lo Post h ad G) (hd : decode cc pc = .ok (.getfield 23, 3)) (kk : G (pc + 3) lv (.ref (ad 11) :: st) fi ar) : G pc lv (.ref h :: st) fi ar := mr_getA hG 11 (by decide) (by decide +kernel) (by exact q40) hd kk
theorem f1_ld_11 (hG : mr_Cl K1 cc nL ret fr lo Post h ad G) (hd : decode cc pc = .ok (.baload, 1)) (i : Nat) (hi : x = nI i) (hlt : i < 4) (kk : G (pc + 1) lv (.int (ar 11 i) :: st) fi ar) : G pc lv (.int x :: .ref (ad 11) :: st) fi ar := mr_bald hG 4 11 4 rfl (by decide) hd i hi hlt kk
theorem f1_st_11 (hG : mr_Cl K1 cc nL ret fr lo Post h ad G) (hd : decode cc pc = .ok (.bastore, 1)) (i : Nat) (hi : y = nI i) (hlt : i < 4) (hv : vp_nar .byte x = v) (kk : G (pc + 1) lv st fi (ua ar 11 i v)) : G pc lv (.int x :: .int y :: .ref (ad 11) :: st) fi ar := mr_bast hG 4 11 4 rfl (by decide) hd i hi hlt hv kk
/-- field 12: reducer -/
theorem f1_get_12 (hG : mr_Cl K1 cc nL ret fr lo Post h ad G) (hd : decode cc pc = .ok (.getfield 80, 3)) (kk : G (pc + 3) lv (.int (fi 12) :: st) fi ar) : G pc lv (.ref h :: st) fi ar := mr_getI hG 12 (by decide) (by decide +kernel) (by exact q41) hd kk
theorem f1_put_12 (hG : mr_Cl K1 cc nL ret fr lo Post h ad G) (hd : decode cc pc = .ok (.putfield 80, 3)) (kk : G (pc + 3) lv st (upd fi 12 x) ar) : G pc lv (.int x :: .ref h :: st) fi ar := mr_putI hG 12 (by decide) (by decide +kernel) (by exact q41) rfl (by decide +kernel) hd kk
/-- field 13: buffered -/
theorem f1_get_13 (hG : mr_Cl K1 cc nL ret fr lo Post h ad G) (hd : decode cc pc = .ok (.getfield 110, 3)) (kk : G (pc + 3) lv (.int (fi 13) :: st) fi ar) : G pc lv (.ref h :: st) fi ar := mr_getI hG 13 (by decide) (by decide +kernel) (by exact q42) hd kk
theorem f1_put_13 (hG : mr_Cl K1 cc nL ret fr lo Post h ad G) (hd : decode cc pc = .ok (.putfield 110, 3)) (kk : G (pc + 3) lv st (upd fi 13 x) ar) : G pc lv (.int x :: .ref h :: st) fi ar := mr_putI hG 13 (by decide) (by decide +kernel) (by exact q42) rfl (by decide +kernel) hd kk
/-- field 14: bufferKey -/
theorem f1_get_14 (hG : mr_Cl K1 cc nL ret fr lo Post h ad G) (hd : decode cc pc = .ok (.getfield 26, 3)) (kk : G (pc + 3) lv (.ref (ad 14) :: st) fi ar) : G pc lv (.ref h :: st) fi ar := mr_getA hG 14 (by decide) (by decide +kernel) (by exact q43) hd kk
theorem f1_ld_14 (hG : mr_Cl K1 cc nL ret fr lo Post h ad G) (hd : decode cc pc = .ok (.baload, 1)) (i : Nat) (hi : x = nI i) (hlt : i < 8) (kk : G (pc + 1) lv (.int (ar 14 i) :: st) fi ar) : G pc lv (.int x :: .ref (ad 14) :: st) fi ar := mr_bald hG 5 14 8 rfl (by decide) hd i hi hlt kk
theorem f1_st_14 (hG : mr_Cl K1 cc nL ret fr lo Post h ad G) (hd : decode cc pc = .ok (.bastore, 1)) (i : Nat) (hi : y = nI i) (hlt : i < 8) (hv : vp_nar .byte x = v) (kk : G (pc + 1) lv st fi (ua ar 14 i v)) : G pc lv (.int x :: .int y :: .ref (ad 14) :: st) fi ar := mr_bast hG 5 14 8 rfl (by decide) hd i hi hlt hv kk
/-- field 15: bufferValue -/
theorem f1_get_15 (hG : mr_Cl K1 cc nL ret fr lo Post h ad G) (hd : decode cc pc = .ok (.getfield 29, 3)) (kk : G (pc + 3) lv (.ref (ad 15) :: st) fi ar) : G pc lv (.ref h :: st) fi ar := mr_getA hG 15 (by decide) (by decide +kernel) (by exact q44) hd kk
theorem f1_ld_15 (hG : mr_Cl K1 cc nL ret fr lo Post h ad G) (hd : decode cc pc = .ok (.iaload, 1)) (i : Nat) (hi : x = nI i) (hlt : i < 8) (kk : G (pc + 1) lv (.int (ar 15 i) :: st) fi ar) : G pc lv (.int x :: .ref (ad 15) :: st) fi ar := mr_iald hG 6 15 8 rfl (by decide) hd i hi hlt kk
theorem f1_st_15 (hG : mr_Cl K1 cc nL ret fr lo Post h ad G) (hd : decode cc pc = .ok (.iastore, 1)) (i : Nat) (hi : y = nI i) (hlt : i < 8) (hv : x = v) (kk : G (pc + 1) lv st fi (ua ar 15 i v)) : G pc lv (.int x :: .int y :: .ref (ad 15) :: st) fi ar := mr_iast hG 6 15 8 rfl (by decide) hd i hi hlt hv kk
/-- field 16: mappedCount -/
theorem f1_get_16 (hG : mr_Cl K1 cc nL ret fr lo Post h ad G) (hd : decode cc pc = .ok (.getfield 87, 3)) (kk : G (pc + 3) lv (.int (fi 16) :: st) fi ar) : G pc lv (.ref h :: st) fi ar := mr_getI hG 16 (by decide) (by decide +kernel) (by exact q45) hd kk
theorem f1_put_16 (hG : mr_Cl K1 cc nL ret fr lo Post h ad G) (hd : decode cc pc = .ok (.putfield 87, 3)) (kk : G (pc + 3) lv st (upd fi 16 x) ar) : G pc lv (.int x :: .ref h :: st) fi ar := mr_putI hG 16 (by decide) (by decide +kernel) (by exact q45) rfl (by decide +kernel) hd kk
/-- field 17: spillCount -/
theorem f1_get_17 (hG : mr_Cl K1 cc nL ret fr lo Post h ad G) (hd : decode cc pc = .ok (.getfield 90, 3)) (kk : G (pc + 3) lv (.int (fi 17) :: st) fi ar) : G pc lv (.ref h :: st) fi ar := mr_getI hG 17 (by decide) (by decide +kernel) (by exact q46) hd kk
theorem f1_put_17 (hG : mr_Cl K1 cc nL ret fr lo Post h ad G) (hd : decode cc pc = .ok (.putfield 90, 3)) (kk : G (pc + 3) lv st (upd fi 17 x) ar) : G pc lv (.int x :: .ref h :: st) fi ar := mr_putI hG 17 (by decide) (by decide +kernel) (by exact q46) rfl (by decide +kernel) hd kk
/-- field 18: spillEnd -/
theorem f1_get_18 (hG : mr_Cl K1 cc nL ret fr lo Post h ad G) (hd : decode cc pc = .ok (.getfield 93, 3)) (kk : G (pc + 3) lv (.int (fi 18) :: st) fi ar) : G pc lv (.ref h :: st) fi ar := mr_getI hG 18 (by decide) (by decide +kernel) (by exact q47) hd kk
theorem f1_put_18 (hG : mr_Cl K1 cc nL ret fr lo Post h ad G) (hd : decode cc pc = .ok (.putfield 93, 3)) (kk : G (pc + 3) lv st (upd fi 18 x) ar) : G pc lv (.int x :: .ref h :: st) fi ar := mr_putI hG 18 (by decide) (by decide +kernel) (by exact q47) rfl (by decide +kernel) hd kk
/-- field 19: spillKey -/
theorem f1_get_19 (hG : mr_Cl K1 cc nL ret fr lo Post h ad G) (hd : decode cc pc = .ok (.getfield 32, 3)) (kk : G (pc + 3) lv (.ref (ad 19) :: st) fi ar) : G pc lv (.ref h :: st) fi ar := mr_getA hG 19 (by decide) (by decide +kernel) (by exact q48) hd kk
theorem f1_ld_19 (hG : mr_Cl K1 cc nL ret fr lo Post h ad G) (hd : decode cc pc = .ok (.baload, 1)) (i : Nat) (hi : x = nI i) (hlt : i < 64) (kk : G (pc + 1) lv (.int (ar 19 i) :: st) fi ar) : G pc lv (.int x :: .ref (ad 19) :: st) fi ar := mr_bald hG 7 19 64 rfl (by decide) hd i hi hlt kk
theorem f1_st_19 (hG : mr_Cl K1 cc nL ret fr lo Post h ad G) (hd : decode cc pc = .ok (.bastore, 1)) (i : Nat) (hi : y = nI i) (hlt : i < 64) (hv : vp_nar .byte x = v) (kk : G (pc + 1) lv st fi (ua ar 19 i v)) : G pc lv (.int x :: .int y :: .ref (ad 19) :: st) fi ar := mr_bast hG 7 19 64 rfl (by decide) hd i hi hlt hv kk
/-- field 20: spillValue -/
theorem f1_get_20 (hG : mr_Cl K1 cc nL ret fr lo Post h ad G) (hd : decode cc pc = .ok (.getfield 35, 3)) (kk : G (pc + 3) lv (.ref (ad 20) :: st) fi ar) : G pc lv (.ref h :: st) fi ar := mr_getA hG 20 (by decide) (by decide +kernel) (by exact q49) hd kk
theorem f1_ld_20 (hG : mr_Cl K1 cc nL ret fr lo Post h ad G) (hd : decode cc pc = .ok (.iaload, 1)) (i : Nat) (hi : x = nI i) (hlt : i < 64) (kk : G (pc + 1) lv (.int (ar 20 i) :: st) fi ar) : G pc lv (.int x :: .ref (ad 20) :: st) fi ar := mr_iald hG 8 20 64 rfl (by decide) hd i hi hlt kk
theorem f1_st_20 (hG : mr_Cl K1 cc nL ret fr lo Post h ad G) (hd : decode cc pc = .ok (.iastore, 1)) (i : Nat) (hi : y = nI i) (hlt : i < 64) (hv : x = v) (kk : G (pc + 1) lv st fi (ua ar 20 i v)) : G pc lv (.int x :: .int y :: .ref (ad 20) :: st) fi ar := mr_iast hG 8 20 64 rfl (by decide) hd i hi hlt hv kk
/-- field 21: partStart -/
theorem f1_get_21 (hG : mr_Cl K1 cc nL ret fr lo Post h ad G) (hd : decode cc pc = .ok (.getfield 38, 3)) (kk : G (pc + 3) lv (.ref (ad 21) :: st) fi ar) : G pc lv (.ref h :: st) fi ar := mr_getA hG 21 (by decide) (by decide +kernel) (by exact q50) hd kk
theorem f1_ld_21 (hG : mr_Cl K1 cc nL ret fr lo Post h ad G) (hd : decode cc pc = .ok (.baload, 1)) (i : Nat) (hi : x = nI i) (hlt : i < 160) (kk : G (pc + 1) lv (.int (ar 21 i) :: st) fi ar) : G pc lv (.int x :: .ref (ad 21) :: st) fi ar := mr_bald hG 9 21 160 rfl (by decide) hd i hi hlt kk
theorem f1_st_21 (hG : mr_Cl K1 cc nL ret fr lo Post h ad G) (hd : decode cc pc = .ok (.bastore, 1)) (i : Nat) (hi : y = nI i) (hlt : i < 160) (hv : vp_nar .byte x = v) (kk : G (pc + 1) lv st fi (ua ar 21 i v)) : G pc lv (.int x :: .int y :: .ref (ad 21) :: st) fi ar := mr_bast hG 9 21 160 rfl (by decide) hd i hi hlt hv kk
/-- field 22: head -/
theorem f1_get_22 (hG : mr_Cl K1 cc nL ret fr lo Post h ad G) (hd : decode cc pc = .ok (.getfield 41, 3)) (kk : G (pc + 3) lv (.ref (ad 22) :: st) fi ar) : G pc lv (.ref h :: st) fi ar := mr_getA hG 22 (by decide) (by decide +kernel) (by exact q51) hd kk
theorem f1_ld_22 (hG : mr_Cl K1 cc nL ret fr lo Post h ad G) (hd : decode cc pc = .ok (.baload, 1)) (i : Nat) (hi : x = nI i) (hlt : i < 32) (kk : G (pc + 1) lv (.int (ar 22 i) :: st) fi ar) : G pc lv (.int x :: .ref (ad 22) :: st) fi ar := mr_bald hG 10 22 32 rfl (by decide) hd i hi hlt kk
theorem f1_st_22 (hG : mr_Cl K1 cc nL ret fr lo Post h ad G) (hd : decode cc pc = .ok (.bastore, 1)) (i : Nat) (hi : y = nI i) (hlt : i < 32) (hv : vp_nar .byte x = v) (kk : G (pc + 1) lv st fi (ua ar 22 i v)) : G pc lv (.int x :: .int y :: .ref (ad 22) :: st) fi ar := mr_bast hG 10 22 32 rfl (by decide) hd i hi hlt hv kk
/-- field 23: limit -/
theorem f1_get_23 (hG : mr_Cl K1 cc nL ret fr lo Post h ad G) (hd : decode cc pc = .ok (.getfield 44, 3)) (kk : G (pc + 3) lv (.ref (ad 23) :: st) fi ar) : G pc lv (.ref h :: st) fi ar := mr_getA hG 23 (by decide) (by decide +kernel) (by exact q52) hd kk
theorem f1_ld_23 (hG : mr_Cl K1 cc nL ret fr lo Post h ad G) (hd : decode cc pc = .ok (.baload, 1)) (i : Nat) (hi : x = nI i) (hlt : i < 32) (kk : G (pc + 1) lv (.int (ar 23 i) :: st) fi ar) : G pc lv (.int x :: .ref (ad 23) :: st) fi ar := mr_bald hG 11 23 32 rfl (by decide) hd i hi hlt kk
theorem f1_st_23 (hG : mr_Cl K1 cc nL ret fr lo Post h ad G) (hd : decode cc pc = .ok (.bastore, 1)) (i : Nat) (hi : y = nI i) (hlt : i < 32) (hv : vp_nar .byte x = v) (kk : G (pc + 1) lv st fi (ua ar 23 i v)) : G pc lv (.int x :: .int y :: .ref (ad 23) :: st) fi ar := mr_bast hG 11 23 32 rfl (by decide) hd i hi hlt hv kk
/-- field 24: outputStart -/
theorem f1_get_24 (hG : mr_Cl K1 cc nL ret fr lo Post h ad G) (hd : decode cc pc = .ok (.getfield 47, 3)) (kk : G (pc + 3) lv (.ref (ad 24) :: st) fi ar) : G pc lv (.ref h :: st) fi ar := mr_getA hG 24 (by decide) (by decide +kernel) (by exact q53) hd kk
theorem f1_ld_24 (hG : mr_Cl K1 cc nL ret fr lo Post h ad G) (hd : decode cc pc = .ok (.baload, 1)) (i : Nat) (hi : x = nI i) (hlt : i < 5) (kk : G (pc + 1) lv (.int (ar 24 i) :: st) fi ar) : G pc lv (.int x :: .ref (ad 24) :: st) fi ar := mr_bald hG 12 24 5 rfl (by decide) hd i hi hlt kk
theorem f1_st_24 (hG : mr_Cl K1 cc nL ret fr lo Post h ad G) (hd : decode cc pc = .ok (.bastore, 1)) (i : Nat) (hi : y = nI i) (hlt : i < 5) (hv : vp_nar .byte x = v) (kk : G (pc + 1) lv st fi (ua ar 24 i v)) : G pc lv (.int x :: .int y :: .ref (ad 24) :: st) fi ar := mr_bast hG 12 24 5 rfl (by decide) hd i hi hlt hv kk
/-- field 25: outputKey -/
theorem f1_get_25 (hG : mr_Cl K1 cc nL ret fr lo Post h ad G) (hd : decode cc pc = .ok (.getfield 50, 3)) (kk : G (pc + 3) lv (.ref (ad 25) :: st) fi ar) : G pc lv (.ref h :: st) fi ar := mr_getA hG 25 (by decide) (by decide +kernel) (by exact q54) hd kk
theorem f1_ld_25 (hG : mr_Cl K1 cc nL ret fr lo Post h ad G) (hd : decode cc pc = .ok (.baload, 1)) (i : Nat) (hi : x = nI i) (hlt : i < 16) (kk : G (pc + 1) lv (.int (ar 25 i) :: st) fi ar) : G pc lv (.int x :: .ref (ad 25) :: st) fi ar := mr_bald hG 13 25 16 rfl (by decide) hd i hi hlt kk
theorem f1_st_25 (hG : mr_Cl K1 cc nL ret fr lo Post h ad G) (hd : decode cc pc = .ok (.bastore, 1)) (i : Nat) (hi : y = nI i) (hlt : i < 16) (hv : vp_nar .byte x = v) (kk : G (pc + 1) lv st fi (ua ar 25 i v)) : G pc lv (.int x :: .int y :: .ref (ad 25) :: st) fi ar := mr_bast hG 13 25 16 rfl (by decide) hd i hi hlt hv kk
/-- field 26: outputValue -/
theorem f1_get_26 (hG : mr_Cl K1 cc nL ret fr lo Post h ad G) (hd : decode cc pc = .ok (.getfield 53, 3)) (kk : G (pc + 3) lv (.ref (ad 26) :: st) fi ar) : G pc lv (.ref h :: st) fi ar := mr_getA hG 26 (by decide) (by decide +kernel) (by exact q55) hd kk
theorem f1_ld_26 (hG : mr_Cl K1 cc nL ret fr lo Post h ad G) (hd : decode cc pc = .ok (.iaload, 1)) (i : Nat) (hi : x = nI i) (hlt : i < 16) (kk : G (pc + 1) lv (.int (ar 26 i) :: st) fi ar) : G pc lv (.int x :: .ref (ad 26) :: st) fi ar := mr_iald hG 14 26 16 rfl (by decide) hd i hi hlt kk
theorem f1_st_26 (hG : mr_Cl K1 cc nL ret fr lo Post h ad G) (hd : decode cc pc = .ok (.iastore, 1)) (i : Nat) (hi : y = nI i) (hlt : i < 16) (hv : x = v) (kk : G (pc + 1) lv st fi (ua ar 26 i v)) : G pc lv (.int x :: .int y :: .ref (ad 26) :: st) fi ar := mr_iast hG 14 26 16 rfl (by decide) hd i hi hlt hv kk
/-- field 27: outputEnd -/
theorem f1_get_27 (hG : mr_Cl K1 cc nL ret fr lo Post h ad G) (hd : decode cc pc = .ok (.getfield 100, 3)) (kk : G (pc + 3) lv (.int (fi 27) :: st) fi ar) : G pc lv (.ref h :: st) fi ar := mr_getI hG 27 (by decide) (by decide +kernel) (by exact q56) hd kk
theorem f1_put_27 (hG : mr_Cl K1 cc nL ret fr lo Post h ad G) (hd : decode cc pc = .ok (.putfield 100, 3)) (kk : G (pc + 3) lv st (upd fi 27 x) ar) : G pc lv (.int x :: .ref h :: st) fi ar := mr_putI hG 27 (by decide) (by decide +kernel) (by exact q56) rfl (by decide +kernel) hd kk
end Fields1
def K2 : mr_Kd := (RX2, TX2, 13, 1, [(1, 4, .int), (2, 64, .int), (3, 64, .int), (9, 8, .int), (10, 16, .boolean), (11, 16, .int)])
theorem ok2 : mr_ok K2 := by
  refine ⟨in_X2, rfl, ⟨tyX2, tyX2_ok⟩, nmX2, ?_⟩
  intro i j a b hi hj hab
  have key : ∀ (i : Nat) (a : Nat × Nat × FieldType), K2.2.2.2.2[i]? = some a → i < 6 := fun i a h => (List.getElem?_eq_some_iff.mp h).1
  have hi1 := key i a hi
  have hj1 := key j b hj
  have h1 : (K2.2.2.2.2.map (fun a => a.1))[i]? = some a.1 := by rw [List.getElem?_map, hi]; rfl
  have h2 : (K2.2.2.2.2.map (fun a => a.1))[j]? = some a.1 := by rw [List.getElem?_map, hj, hab]; rfl
  exact va_nd_inj (K2.2.2.2.2.map (fun a => a.1)) (by decide +kernel) i j a.1 h1 h2
section Fields2
variable {cc : ByteArray} {nL fr lo h pc : Nat} {ret : Option FieldType} {Post : mr_PT} {ad : Nat → Nat} {G : mr_GT} {lv st : List Value} {fi : Nat → Int32} {ar : Nat → Nat → Int32} {x y v : Int32}
/-- field 0: parts -/
theorem f2_get_0 (hG : mr_Cl K2 cc nL ret fr lo Post h ad G) (hd : decode cc pc = .ok (.getfield 50, 3)) (kk : G (pc + 3) lv (.int (fi 0) :: st) fi ar) : G pc lv (.ref h :: st) fi ar := mr_getI hG 0 (by decide) (by decide +kernel) (by exact q223) hd kk
theorem f2_put_0 (hG : mr_Cl K2 cc nL ret fr lo Post h ad G) (hd : decode cc pc = .ok (.putfield 50, 3)) (kk : G (pc + 3) lv st (upd fi 0 x) ar) : G pc lv (.int x :: .ref h :: st) fi ar := mr_putI hG 0 (by decide) (by decide +kernel) (by exact q223) rfl (by decide +kernel) hd kk
/-- field 1: size -/
theorem f2_get_1 (hG : mr_Cl K2 cc nL ret fr lo Post h ad G) (hd : decode cc pc = .ok (.getfield 7, 3)) (kk : G (pc + 3) lv (.ref (ad 1) :: st) fi ar) : G pc lv (.ref h :: st) fi ar := mr_getA hG 1 (by decide) (by decide +kernel) (by exact q224) hd kk
theorem f2_ld_1 (hG : mr_Cl K2 cc nL ret fr lo Post h ad G) (hd : decode cc pc = .ok (.iaload, 1)) (i : Nat) (hi : x = nI i) (hlt : i < 4) (kk : G (pc + 1) lv (.int (ar 1 i) :: st) fi ar) : G pc lv (.int x :: .ref (ad 1) :: st) fi ar := mr_iald hG 0 1 4 rfl (by decide) hd i hi hlt kk
theorem f2_st_1 (hG : mr_Cl K2 cc nL ret fr lo Post h ad G) (hd : decode cc pc = .ok (.iastore, 1)) (i : Nat) (hi : y = nI i) (hlt : i < 4) (hv : x = v) (kk : G (pc + 1) lv st fi (ua ar 1 i v)) : G pc lv (.int x :: .int y :: .ref (ad 1) :: st) fi ar := mr_iast hG 0 1 4 rfl (by decide) hd i hi hlt hv kk
/-- field 2: keys -/
theorem f2_get_2 (hG : mr_Cl K2 cc nL ret fr lo Post h ad G) (hd : decode cc pc = .ok (.getfield 13, 3)) (kk : G (pc + 3) lv (.ref (ad 2) :: st) fi ar) : G pc lv (.ref h :: st) fi ar := mr_getA hG 2 (by decide) (by decide +kernel) (by exact q225) hd kk
theorem f2_ld_2 (hG : mr_Cl K2 cc nL ret fr lo Post h ad G) (hd : decode cc pc = .ok (.iaload, 1)) (i : Nat) (hi : x = nI i) (hlt : i < 64) (kk : G (pc + 1) lv (.int (ar 2 i) :: st) fi ar) : G pc lv (.int x :: .ref (ad 2) :: st) fi ar := mr_iald hG 1 2 64 rfl (by decide) hd i hi hlt kk
theorem f2_st_2 (hG : mr_Cl K2 cc nL ret fr lo Post h ad G) (hd : decode cc pc = .ok (.iastore, 1)) (i : Nat) (hi : y = nI i) (hlt : i < 64) (hv : x = v) (kk : G (pc + 1) lv st fi (ua ar 2 i v)) : G pc lv (.int x :: .int y :: .ref (ad 2) :: st) fi ar := mr_iast hG 1 2 64 rfl (by decide) hd i hi hlt hv kk
/-- field 3: values -/
theorem f2_get_3 (hG : mr_Cl K2 cc nL ret fr lo Post h ad G) (hd : decode cc pc = .ok (.getfield 16, 3)) (kk : G (pc + 3) lv (.ref (ad 3) :: st) fi ar) : G pc lv (.ref h :: st) fi ar := mr_getA hG 3 (by decide) (by decide +kernel) (by exact q226) hd kk
theorem f2_ld_3 (hG : mr_Cl K2 cc nL ret fr lo Post h ad G) (hd : decode cc pc = .ok (.iaload, 1)) (i : Nat) (hi : x = nI i) (hlt : i < 64) (kk : G (pc + 1) lv (.int (ar 3 i) :: st) fi ar) : G pc lv (.int x :: .ref (ad 3) :: st) fi ar := mr_iald hG 2 3 64 rfl (by decide) hd i hi hlt kk
theorem f2_st_3 (hG : mr_Cl K2 cc nL ret fr lo Post h ad G) (hd : decode cc pc = .ok (.iastore, 1)) (i : Nat) (hi : y = nI i) (hlt : i < 64) (hv : x = v) (kk : G (pc + 1) lv st fi (ua ar 3 i v)) : G pc lv (.int x :: .int y :: .ref (ad 3) :: st) fi ar := mr_iast hG 2 3 64 rfl (by decide) hd i hi hlt hv kk
/-- field 4: modulus -/
theorem f2_get_4 (hG : mr_Cl K2 cc nL ret fr lo Post h ad G) (hd : decode cc pc = .ok (.getfield 19, 3)) (kk : G (pc + 3) lv (.int (fi 4) :: st) fi ar) : G pc lv (.ref h :: st) fi ar := mr_getI hG 4 (by decide) (by decide +kernel) (by exact q227) hd kk
theorem f2_put_4 (hG : mr_Cl K2 cc nL ret fr lo Post h ad G) (hd : decode cc pc = .ok (.putfield 19, 3)) (kk : G (pc + 3) lv st (upd fi 4 x) ar) : G pc lv (.int x :: .ref h :: st) fi ar := mr_putI hG 4 (by decide) (by decide +kernel) (by exact q227) rfl (by decide +kernel) hd kk
/-- field 5: factor -/
theorem f2_get_5 (hG : mr_Cl K2 cc nL ret fr lo Post h ad G) (hd : decode cc pc = .ok (.getfield 23, 3)) (kk : G (pc + 3) lv (.int (fi 5) :: st) fi ar) : G pc lv (.ref h :: st) fi ar := mr_getI hG 5 (by decide) (by decide +kernel) (by exact q228) hd kk
theorem f2_put_5 (hG : mr_Cl K2 cc nL ret fr lo Post h ad G) (hd : decode cc pc = .ok (.putfield 23, 3)) (kk : G (pc + 3) lv st (upd fi 5 x) ar) : G pc lv (.int x :: .ref h :: st) fi ar := mr_putI hG 5 (by decide) (by decide +kernel) (by exact q228) rfl (by decide +kernel) hd kk
/-- field 6: offset -/
theorem f2_get_6 (hG : mr_Cl K2 cc nL ret fr lo Post h ad G) (hd : decode cc pc = .ok (.getfield 26, 3)) (kk : G (pc + 3) lv (.int (fi 6) :: st) fi ar) : G pc lv (.ref h :: st) fi ar := mr_getI hG 6 (by decide) (by decide +kernel) (by exact q229) hd kk
theorem f2_put_6 (hG : mr_Cl K2 cc nL ret fr lo Post h ad G) (hd : decode cc pc = .ok (.putfield 26, 3)) (kk : G (pc + 3) lv st (upd fi 6 x) ar) : G pc lv (.int x :: .ref h :: st) fi ar := mr_putI hG 6 (by decide) (by decide +kernel) (by exact q229) rfl (by decide +kernel) hd kk
/-- field 7: low -/
theorem f2_get_7 (hG : mr_Cl K2 cc nL ret fr lo Post h ad G) (hd : decode cc pc = .ok (.getfield 30, 3)) (kk : G (pc + 3) lv (.int (fi 7) :: st) fi ar) : G pc lv (.ref h :: st) fi ar := mr_getI hG 7 (by decide) (by decide +kernel) (by exact q230) hd kk
theorem f2_put_7 (hG : mr_Cl K2 cc nL ret fr lo Post h ad G) (hd : decode cc pc = .ok (.putfield 30, 3)) (kk : G (pc + 3) lv st (upd fi 7 x) ar) : G pc lv (.int x :: .ref h :: st) fi ar := mr_putI hG 7 (by decide) (by decide +kernel) (by exact q230) rfl (by decide +kernel) hd kk
/-- field 8: high -/
theorem f2_get_8 (hG : mr_Cl K2 cc nL ret fr lo Post h ad G) (hd : decode cc pc = .ok (.getfield 34, 3)) (kk : G (pc + 3) lv (.int (fi 8) :: st) fi ar) : G pc lv (.ref h :: st) fi ar := mr_getI hG 8 (by decide) (by decide +kernel) (by exact q231) hd kk
theorem f2_put_8 (hG : mr_Cl K2 cc nL ret fr lo Post h ad G) (hd : decode cc pc = .ok (.putfield 34, 3)) (kk : G (pc + 3) lv st (upd fi 8 x) ar) : G pc lv (.int x :: .ref h :: st) fi ar := mr_putI hG 8 (by decide) (by decide +kernel) (by exact q231) rfl (by decide +kernel) hd kk
/-- field 9: failing -/
theorem f2_get_9 (hG : mr_Cl K2 cc nL ret fr lo Post h ad G) (hd : decode cc pc = .ok (.getfield 37, 3)) (kk : G (pc + 3) lv (.ref (ad 9) :: st) fi ar) : G pc lv (.ref h :: st) fi ar := mr_getA hG 9 (by decide) (by decide +kernel) (by exact q232) hd kk
theorem f2_ld_9 (hG : mr_Cl K2 cc nL ret fr lo Post h ad G) (hd : decode cc pc = .ok (.iaload, 1)) (i : Nat) (hi : x = nI i) (hlt : i < 8) (kk : G (pc + 1) lv (.int (ar 9 i) :: st) fi ar) : G pc lv (.int x :: .ref (ad 9) :: st) fi ar := mr_iald hG 3 9 8 rfl (by decide) hd i hi hlt kk
theorem f2_st_9 (hG : mr_Cl K2 cc nL ret fr lo Post h ad G) (hd : decode cc pc = .ok (.iastore, 1)) (i : Nat) (hi : y = nI i) (hlt : i < 8) (hv : x = v) (kk : G (pc + 1) lv st fi (ua ar 9 i v)) : G pc lv (.int x :: .int y :: .ref (ad 9) :: st) fi ar := mr_iast hG 3 9 8 rfl (by decide) hd i hi hlt hv kk
/-- field 10: has -/
theorem f2_get_10 (hG : mr_Cl K2 cc nL ret fr lo Post h ad G) (hd : decode cc pc = .ok (.getfield 40, 3)) (kk : G (pc + 3) lv (.ref (ad 10) :: st) fi ar) : G pc lv (.ref h :: st) fi ar := mr_getA hG 10 (by decide) (by decide +kernel) (by exact q233) hd kk
theorem f2_ld_10 (hG : mr_Cl K2 cc nL ret fr lo Post h ad G) (hd : decode cc pc = .ok (.baload, 1)) (i : Nat) (hi : x = nI i) (hlt : i < 16) (kk : G (pc + 1) lv (.int (ar 10 i) :: st) fi ar) : G pc lv (.int x :: .ref (ad 10) :: st) fi ar := mr_zald hG 4 10 16 rfl (by decide) hd i hi hlt kk
theorem f2_st_10 (hG : mr_Cl K2 cc nL ret fr lo Post h ad G) (hd : decode cc pc = .ok (.bastore, 1)) (i : Nat) (hi : y = nI i) (hlt : i < 16) (hv : vp_nar .boolean x = v) (kk : G (pc + 1) lv st fi (ua ar 10 i v)) : G pc lv (.int x :: .int y :: .ref (ad 10) :: st) fi ar := mr_zast hG 4 10 16 rfl (by decide) hd i hi hlt hv kk
/-- field 11: result -/
theorem f2_get_11 (hG : mr_Cl K2 cc nL ret fr lo Post h ad G) (hd : decode cc pc = .ok (.getfield 44, 3)) (kk : G (pc + 3) lv (.ref (ad 11) :: st) fi ar) : G pc lv (.ref h :: st) fi ar := mr_getA hG 11 (by decide) (by decide +kernel) (by exact q234) hd kk
theorem f2_ld_11 (hG : mr_Cl K2 cc nL ret fr lo Post h ad G) (hd : decode cc pc = .ok (.iaload, 1)) (i : Nat) (hi : x = nI i) (hlt : i < 16) (kk : G (pc + 1) lv (.int (ar 11 i) :: st) fi ar) : G pc lv (.int x :: .ref (ad 11) :: st) fi ar := mr_iald hG 5 11 16 rfl (by decide) hd i hi hlt kk
theorem f2_st_11 (hG : mr_Cl K2 cc nL ret fr lo Post h ad G) (hd : decode cc pc = .ok (.iastore, 1)) (i : Nat) (hi : y = nI i) (hlt : i < 16) (hv : x = v) (kk : G (pc + 1) lv st fi (ua ar 11 i v)) : G pc lv (.int x :: .int y :: .ref (ad 11) :: st) fi ar := mr_iast hG 5 11 16 rfl (by decide) hd i hi hlt hv kk
/-- field 12: mapped -/
theorem f2_get_12 (hG : mr_Cl K2 cc nL ret fr lo Post h ad G) (hd : decode cc pc = .ok (.getfield 47, 3)) (kk : G (pc + 3) lv (.int (fi 12) :: st) fi ar) : G pc lv (.ref h :: st) fi ar := mr_getI hG 12 (by decide) (by decide +kernel) (by exact q235) hd kk
theorem f2_put_12 (hG : mr_Cl K2 cc nL ret fr lo Post h ad G) (hd : decode cc pc = .ok (.putfield 47, 3)) (kk : G (pc + 3) lv st (upd fi 12 x) ar) : G pc lv (.int x :: .ref h :: st) fi ar := mr_putI hG 12 (by decide) (by decide +kernel) (by exact q235) rfl (by decide +kernel) hd kk
end Fields2
end
section
set_option maxRecDepth 100000
set_option linter.unusedVariables false
/-! numbers -/
theorem i8 : ∀ n, n < 128 → (nI n).toInt8.toInt32 = nI n := by decide +kernel
theorem nar_b {n : Nat} (h : n < 128) : vp_nar .byte (nI n) = nI n := by rw [vp_nar_byte]; exact i8 n h
theorem nz0 : narrow .boolean (.int (nI 0)) = .int (nI 0) := rfl
theorem nz1 : narrow .boolean (.int (nI 1)) = .int (nI 1) := rfl
theorem i_le {x y : Int32} : x ≤ y ↔ x.toInt ≤ y.toInt := Int32.le_iff_toInt_le
theorem i_lt {x y : Int32} : x < y ↔ x.toInt < y.toInt := Int32.lt_iff_toInt_lt
theorem i_0 : (0 : Int32).toInt = 0 := by decide
theorem spl (x : Int32) (n : Nat) (hn : n < 1000) : (x < 0 ∨ nI n < x) ∨ ∃ j : Nat, j ≤ n ∧ x = nI j := by
  rcases pk_ix x (n := n + 1) (by omega) with h | h | ⟨j, h1, h2⟩
  · exact Or.inl (Or.inl h)
  · refine Or.inl (Or.inr ?_)
    rw [i_le, nI_toInt (by omega)] at h
    rw [i_lt, nI_toInt (by omega)]
    omega
  · exact Or.inr ⟨j, by omega, h2⟩
theorem n_neg {n : Nat} (h : n < 2 ^ 31) : ¬ nI n < 0 := nI_pos h
theorem lt_nle {x y : Int32} (h : x < y) : ¬ y ≤ x := by
  rw [i_lt] at h; rw [i_le]; omega
theorem nlt_le {x y : Int32} (h : ¬ x < y) : y ≤ x := by
  rw [i_lt] at h; rw [i_le]; omega
theorem nle_lt {x y : Int32} (h : ¬ x ≤ y) : y < x := by
  rw [i_le] at h; rw [i_lt]; omega
theorem le_nlt {x y : Int32} (h : x ≤ y) : ¬ y < x := by
  rw [i_le] at h; rw [i_lt]; omega
/-- the sort's rank of a key: by part, then by key (keys under 16) -/
def rk (P k : Nat) : Nat := (k % P) * 16 + k
/-- what the reducer r makes of two values -/
def comb (r : Nat) (a b : Int32) : Int32 := if r = 1 then (if a ≤ b then b else a) else if r = 2 then (if b ≤ a then b else a) else a + b
def ssum (f : Nat → Nat) : Nat → Nat
  | 0 => 0
  | n + 1 => ssum f n + f n
theorem mr_Con.mono {K : mr_Kd} {y : MethodName} {cc : ByteArray} {nL : Nat} {ret : Option FieldType} {fr lo : Nat} {avs : List Value} {fi : Nat → Int32} {ar : Nat → Nat → Int32} {Post Post' : mr_PT} (hC : mr_Con K y cc nL ret fr lo avs fi ar Post) (hp : ∀ r fi' ar', Post r fi' ar' → Post' r fi' ar') : mr_Con K y cc nL ret fr lo avs fi ar Post' := by
  intro l D h ad cA sz
  have h1 := hC l D h ad cA sz
  intro p e ha hc hk s m args below hf happ hP hKk
  obtain ⟨k, o, a1, a2, a3, ⟨a4, a5⟩⟩ := h1 p e ha hc hk s m args below hf happ hP hKk
  refine ⟨k, o, a1, a2, a3, ⟨?_, a5⟩⟩
  cases ret with
  | none =>
    obtain ⟨⟨u, b1, b2, b3⟩, b4⟩ := a4
    exact ⟨⟨u, b1, hp _ _ _ b2, b3⟩, b4⟩
  | some ty =>
    obtain ⟨⟨r, u, b1, b2, b3⟩, b4⟩ := a4
    exact ⟨⟨r, u, b1, hp _ _ _ b2, b3⟩, b4⟩
section Leaf1
variable {fi : Nat → Int32} {ar : Nat → Nat → Int32}
theorem ct_comesAfter {P a b : Nat} (hP : fi 0 = nI P) (h1 : 1 ≤ P) (h4 : P ≤ 4) (ha : a < 16) (hb : b < 16) : mr_Con K1 yX1_comesAfter cX1_comesAfter 5 (some .boolean) 0 0 [.int (nI a), .int (nI b)] fi ar (fun r fi' ar' => fi' = fi ∧ ar' = ar ∧ r = if rk P b < rk P a then nI 1 else nI 0) := by
  refine mr_con ok1 (by decide) rfl 2 rfl rfl ?_
  intro h ad G hG
  show G 0 [.ref h, .int (nI a), .int (nI b), .null, .null] [] fi ar
  have hxa : a % P < 4 := Nat.lt_of_lt_of_le (Nat.mod_lt _ h1) h4
  have hxb : b % P < 4 := Nat.lt_of_lt_of_le (Nat.mod_lt _ h1) h4
  refine mr_iload1 hG dX1_comesAfter_0 ?_
  refine mr_aload0 hG dX1_comesAfter_1 ?_
  refine f1_get_0 hG dX1_comesAfter_2 ?_
  refine mr_top (hP) ?_
  refine mr_iremN hG dX1_comesAfter_5 (by omega) (by omega) (by omega) ?_
  refine mr_istore3 hG dX1_comesAfter_6 ?_
  refine mr_iload2 hG dX1_comesAfter_7 ?_
  refine mr_aload0 hG dX1_comesAfter_8 ?_
  refine f1_get_0 hG dX1_comesAfter_9 ?_
  refine mr_top (hP) ?_
  refine mr_iremN hG dX1_comesAfter_12 (by omega) (by omega) (by omega) ?_
  refine mr_istore4 hG dX1_comesAfter_13 ?_
  refine mr_iload3 hG dX1_comesAfter_15 ?_
  refine mr_iload4 hG dX1_comesAfter_16 ?_
  show G 18 _ _ _ _
  refine mr_icmp_gtN hG 32 dX1_comesAfter_18 (by decide) (by omega) (by omega) (fun c => ?_) (fun c => ?_)
  · refine mr_iconst hG 1 dX1_comesAfter_32 (by decide) ?_
    refine mr_goto hG 37 dX1_comesAfter_33 (by decide) ?_
    show G 37 _ _ _ _
    exact mr_zret hG dX1_comesAfter_37 nz1 ⟨rfl, rfl, by rw [if_pos (by unfold rk; omega)]⟩
  · refine mr_iload3 hG dX1_comesAfter_21 ?_
    refine mr_iload4 hG dX1_comesAfter_22 ?_
    show G 24 _ _ _ _
    refine mr_icmp_neN hG 36 dX1_comesAfter_24 (by decide) (by omega) (by omega) (fun c2 => ?_) (fun c2 => ?_)
    · refine mr_iconst hG 0 dX1_comesAfter_36 (by decide) ?_
      show G 37 _ _ _ _
      exact mr_zret hG dX1_comesAfter_37 nz0 ⟨rfl, rfl, by rw [if_neg (by unfold rk; omega)]⟩
    · refine mr_iload1 hG dX1_comesAfter_27 ?_
      refine mr_iload2 hG dX1_comesAfter_28 ?_
      show G 29 _ _ _ _
      refine mr_icmp_leN hG 36 dX1_comesAfter_29 (by decide) (by omega) (by omega) (fun c3 => ?_) (fun c3 => ?_)
      · refine mr_iconst hG 0 dX1_comesAfter_36 (by decide) ?_
        show G 37 _ _ _ _
        exact mr_zret hG dX1_comesAfter_37 nz0 ⟨rfl, rfl, by rw [if_neg (by unfold rk; omega)]⟩
      · refine mr_iconst hG 1 dX1_comesAfter_32 (by decide) ?_
        refine mr_goto hG 37 dX1_comesAfter_33 (by decide) ?_
        show G 37 _ _ _ _
        exact mr_zret hG dX1_comesAfter_37 nz1 ⟨rfl, rfl, by rw [if_pos (by unfold rk; omega)]⟩
theorem ct_combined {r : Nat} {a b : Int32} (hr : fi 12 = nI r) (hr4 : r ≤ 4) : mr_Con K1 yX1_combined cX1_combined 3 (some .int) 0 0 [.int a, .int b] fi ar (fun v fi' ar' => fi' = fi ∧ ar' = ar ∧ v = comb r a b) := by
  refine mr_con ok1 (by decide) rfl 0 rfl rfl ?_
  intro h ad G hG
  show G 0 [.ref h, .int a, .int b] [] fi ar
  refine mr_aload0 hG dX1_combined_0 ?_
  refine f1_get_12 hG dX1_combined_1 ?_
  refine mr_top (hr) ?_
  refine mr_iconst hG 1 dX1_combined_4 (by decide) ?_
  show G 5 _ _ _ _
  refine mr_icmp_neN hG 19 dX1_combined_5 (by decide) (by omega) (by omega) (fun c => ?_) (fun c => ?_)
  · refine mr_aload0 hG dX1_combined_19 ?_
    refine f1_get_12 hG dX1_combined_20 ?_
    refine mr_top (hr) ?_
    refine mr_iconst hG 2 dX1_combined_23 (by decide) ?_
    show G 24 _ _ _ _
    refine mr_icmp_neN hG 38 dX1_combined_24 (by decide) (by omega) (by omega) (fun c2 => ?_) (fun c2 => ?_)
    · refine mr_iload1 hG dX1_combined_38 ?_
      refine mr_iload2 hG dX1_combined_39 ?_
      refine mr_iadd hG dX1_combined_40 ?_
      show G 41 _ _ _ _
      exact mr_iret hG dX1_combined_41 ⟨rfl, rfl, by simp [comb, c, c2]⟩
    · refine mr_iload1 hG dX1_combined_27 ?_
      refine mr_iload2 hG dX1_combined_28 ?_
      show G 29 _ _ _ _
      refine mr_icmp_ge hG 36 dX1_combined_29 (by decide) (fun c3 => ?_) (fun c3 => ?_)
      · refine mr_iload2 hG dX1_combined_36 ?_
        show G 37 _ _ _ _
        exact mr_iret hG dX1_combined_37 ⟨rfl, rfl, by simp [comb, c2, c3]⟩
      · refine mr_iload1 hG dX1_combined_32 ?_
        refine mr_goto hG 37 dX1_combined_33 (by decide) ?_
        show G 37 _ _ _ _
        exact mr_iret hG dX1_combined_37 ⟨rfl, rfl, by simp [comb, c2, c3]⟩
  · refine mr_iload1 hG dX1_combined_8 ?_
    refine mr_iload2 hG dX1_combined_9 ?_
    show G 10 _ _ _ _
    refine mr_icmp_le hG 17 dX1_combined_10 (by decide) (fun c3 => ?_) (fun c3 => ?_)
    · refine mr_iload2 hG dX1_combined_17 ?_
      show G 18 _ _ _ _
      exact mr_iret hG dX1_combined_18 ⟨rfl, rfl, by simp [comb, c, c3]⟩
    · refine mr_iload1 hG dX1_combined_13 ?_
      refine mr_goto hG 18 dX1_combined_14 (by decide) ?_
      show G 18 _ _ _ _
      exact mr_iret hG dX1_combined_18 ⟨rfl, rfl, by simp [comb, c, c3]⟩
theorem lp_ftc {Post : mr_PT} {h : Nat} {ad : Nat → Nat} {G : mr_GT} (hG : mr_Cl K1 cX1_failuresToCome 3 (some .int) 0 0 Post h ad G) (mf rf : Nat → Nat) (hf : ∀ i, i < 4 → ar 10 i = nI (mf i) ∧ ar 11 i = nI (rf i)) (hp : Post (nI (ssum (fun i => mf i + rf i) 4)) fi ar) : ∀ n i, i ≤ 4 → 4 < i + n → G 4 [.ref h, .int (nI (ssum (fun i => mf i + rf i) i)), .int (nI i)] [] fi ar := by
  intro n
  induction n with
  | zero => intro i h1 h2; omega
  | succ n ih =>
    intro i h1 h2
    refine mr_iload2 hG dX1_failuresToCome_4 ?_
    refine mr_iconst hG 4 dX1_failuresToCome_5 (by decide) ?_
    show G 6 _ _ _ _
    refine mr_icmp_geN hG 31 dX1_failuresToCome_6 (by decide) (by omega) (by omega) (fun c => ?_) (fun c => ?_)
    · have e : i = 4 := by omega
      subst e
      refine mr_iload1 hG dX1_failuresToCome_31 ?_
      show G 32 _ _ _ _
      exact mr_iret hG dX1_failuresToCome_32 hp
    · refine mr_iload1 hG dX1_failuresToCome_9 ?_
      refine mr_aload0 hG dX1_failuresToCome_10 ?_
      refine f1_get_10 hG dX1_failuresToCome_11 ?_
      refine mr_iload2 hG dX1_failuresToCome_14 ?_
      refine f1_ld_10 hG dX1_failuresToCome_15 i rfl c ?_
      refine mr_top ((hf i c).1) ?_
      refine mr_aload0 hG dX1_failuresToCome_16 ?_
      refine f1_get_11 hG dX1_failuresToCome_17 ?_
      refine mr_iload2 hG dX1_failuresToCome_20 ?_
      refine f1_ld_11 hG dX1_failuresToCome_21 i rfl c ?_
      refine mr_top ((hf i c).2) ?_
      refine mr_iaddN hG dX1_failuresToCome_22 ?_
      refine mr_iaddN hG dX1_failuresToCome_23 ?_
      refine mr_istore1 hG dX1_failuresToCome_24 ?_
      refine mr_iincS2 hG dX1_failuresToCome_25 ?_
      refine mr_goto hG 4 dX1_failuresToCome_28 (by decide) ?_
      show G 4 _ _ _ _
      exact ih (i + 1) (by omega) (by omega)
theorem ct_failuresToCome (mf rf : Nat → Nat) (hf : ∀ i, i < 4 → ar 10 i = nI (mf i) ∧ ar 11 i = nI (rf i)) : mr_Con K1 yX1_failuresToCome cX1_failuresToCome 3 (some .int) 0 0 [] fi ar (fun v fi' ar' => fi' = fi ∧ ar' = ar ∧ v = nI (ssum (fun i => mf i + rf i) 4)) := by
  refine mr_con ok1 (by decide) rfl 2 rfl rfl ?_
  intro h ad G hG
  show G 0 [.ref h, .null, .null] [] fi ar
  refine mr_iconst hG 0 dX1_failuresToCome_0 (by decide) ?_
  refine mr_istore1 hG dX1_failuresToCome_1 ?_
  refine mr_iconst hG 0 dX1_failuresToCome_2 (by decide) ?_
  refine mr_istore2 hG dX1_failuresToCome_3 ?_
  show G 4 _ _ _ _
  exact lp_ftc hG mf rf hf ⟨rfl, rfl, rfl⟩ 5 0 (by omega) (by omega)
theorem ct_addRecord_bad {s k v : Int32} (hs : s < 0 ∨ nI 3 < s) : mr_Con K1 yX1_addRecord cX1_addRecord 5 (some .int) 0 0 [.int s, .int k, .int v] fi ar (fun r fi' ar' => fi' = fi ∧ ar' = ar ∧ r = -1) := by
  refine mr_con ok1 (by decide) rfl 1 rfl rfl ?_
  intro h ad G hG
  show G 0 [.ref h, .int s, .int k, .int v, .null] [] fi ar
  refine mr_iload1 hG dX1_addRecord_0 ?_
  show G 1 _ _ _ _
  refine mr_if_lt hG 9 dX1_addRecord_1 (by decide) (fun b1 => ?_) (fun b1 => ?_)
  · refine mr_iconstm hG (-1) dX1_addRecord_9 (by decide) ?_
    show G 10 _ _ _ _
    exact mr_iret hG dX1_addRecord_10 ⟨rfl, rfl, rfl⟩
  · refine mr_iload1 hG dX1_addRecord_4 ?_
    refine mr_iconst hG 3 dX1_addRecord_5 (by decide) ?_
    show G 6 _ _ _ _
    refine mr_icmp_le hG 11 dX1_addRecord_6 (by decide) (fun c2 => ?_) (fun c2 => ?_)
    · exact absurd c2 (lt_nle (hs.resolve_left b1))
    · refine mr_iconstm hG (-1) dX1_addRecord_9 (by decide) ?_
      show G 10 _ _ _ _
      exact mr_iret hG dX1_addRecord_10 ⟨rfl, rfl, rfl⟩
theorem ct_addRecord_full {j c : Nat} {k v : Int32} (hj : j < 4) (hc : ar 2 j = nI c) (h16 : 16 ≤ c) (hc2 : c < 100) : mr_Con K1 yX1_addRecord cX1_addRecord 5 (some .int) 0 0 [.int (nI j), .int k, .int v] fi ar (fun r fi' ar' => fi' = fi ∧ ar' = ar ∧ r = -2) := by
  refine mr_con ok1 (by decide) rfl 1 rfl rfl ?_
  intro h ad G hG
  show G 0 [.ref h, .int (nI j), .int k, .int v, .null] [] fi ar
  refine mr_iload1 hG dX1_addRecord_0 ?_
  show G 1 _ _ _ _
  refine mr_if_lt hG 9 dX1_addRecord_1 (by decide) (fun b1 => ?_) (fun b1 => ?_)
  · exact absurd b1 (n_neg (by omega))
  · refine mr_iload1 hG dX1_addRecord_4 ?_
    refine mr_iconst hG 3 dX1_addRecord_5 (by decide) ?_
    show G 6 _ _ _ _
    refine mr_icmp_leN hG 11 dX1_addRecord_6 (by decide) (by omega) (by omega) (fun c2 => ?_) (fun c2 => ?_)
    · refine mr_aload0 hG dX1_addRecord_11 ?_
      refine f1_get_2 hG dX1_addRecord_12 ?_
      refine mr_iload1 hG dX1_addRecord_15 ?_
      refine f1_ld_2 hG dX1_addRecord_16 j rfl hj ?_
      refine mr_top (hc) ?_
      refine mr_bipush hG (nI 16) dX1_addRecord_17 (by decide) ?_
      show G 19 _ _ _ _
      refine mr_icmp_ltN hG 25 dX1_addRecord_19 (by decide) (by omega) (by omega) (fun c3 => ?_) (fun c3 => ?_)
      · omega
      · refine mr_bipush hG (-2) dX1_addRecord_22 (by decide) ?_
        show G 24 _ _ _ _
        exact mr_iret hG dX1_addRecord_24 ⟨rfl, rfl, rfl⟩
    · omega
theorem ct_addRecord_ok {j c : Nat} {k v : Int32} (hj : j < 4) (hc : ar 2 j = nI c) (h16 : c < 16) : mr_Con K1 yX1_addRecord cX1_addRecord 5 (some .int) 0 0 [.int (nI j), .int k, .int v] fi ar (fun r fi' ar' => fi' = fi ∧ ar' = ua (ua (ua ar 3 (16 * j + c) k) 4 (16 * j + c) v) 2 j (nI (c + 1)) ∧ r = nI (c + 1)) := by
  refine mr_con ok1 (by decide) rfl 1 rfl rfl ?_
  intro h ad G hG
  show G 0 [.ref h, .int (nI j), .int k, .int v, .null] [] fi ar
  refine mr_iload1 hG dX1_addRecord_0 ?_
  show G 1 _ _ _ _
  refine mr_if_lt hG 9 dX1_addRecord_1 (by decide) (fun b1 => ?_) (fun b1 => ?_)
  · exact absurd b1 (n_neg (by omega))
  · refine mr_iload1 hG dX1_addRecord_4 ?_
    refine mr_iconst hG 3 dX1_addRecord_5 (by decide) ?_
    show G 6 _ _ _ _
    refine mr_icmp_leN hG 11 dX1_addRecord_6 (by decide) (by omega) (by omega) (fun c2 => ?_) (fun c2 => ?_)
    · refine mr_aload0 hG dX1_addRecord_11 ?_
      refine f1_get_2 hG dX1_addRecord_12 ?_
      refine mr_iload1 hG dX1_addRecord_15 ?_
      refine f1_ld_2 hG dX1_addRecord_16 j rfl hj ?_
      refine mr_top (hc) ?_
      refine mr_bipush hG (nI 16) dX1_addRecord_17 (by decide) ?_
      show G 19 _ _ _ _
      refine mr_icmp_ltN hG 25 dX1_addRecord_19 (by decide) (by omega) (by omega) (fun c3 => ?_) (fun c3 => ?_)
      · refine mr_bipush hG (nI 16) dX1_addRecord_25 (by decide) ?_
        refine mr_iload1 hG dX1_addRecord_27 ?_
        refine mr_imulN hG dX1_addRecord_28 ?_
        refine mr_aload0 hG dX1_addRecord_29 ?_
        refine f1_get_2 hG dX1_addRecord_30 ?_
        refine mr_iload1 hG dX1_addRecord_33 ?_
        refine f1_ld_2 hG dX1_addRecord_34 j rfl hj ?_
        refine mr_top (hc) ?_
        refine mr_iaddN hG dX1_addRecord_35 ?_
        refine mr_istore4 hG dX1_addRecord_36 ?_
        refine mr_aload0 hG dX1_addRecord_38 ?_
        refine f1_get_3 hG dX1_addRecord_39 ?_
        refine mr_iload4 hG dX1_addRecord_42 ?_
        refine mr_iload2 hG dX1_addRecord_44 ?_
        refine f1_st_3 hG dX1_addRecord_45 (16 * j + c) rfl (by omega) rfl ?_
        show G 46 _ _ _ _
        refine mr_aload0 hG dX1_addRecord_46 ?_
        refine f1_get_4 hG dX1_addRecord_47 ?_
        refine mr_iload4 hG dX1_addRecord_50 ?_
        refine mr_iload3 hG dX1_addRecord_52 ?_
        refine f1_st_4 hG dX1_addRecord_53 (16 * j + c) rfl (by omega) rfl ?_
        refine mr_aload0 hG dX1_addRecord_54 ?_
        refine f1_get_2 hG dX1_addRecord_55 ?_
        refine mr_iload1 hG dX1_addRecord_58 ?_
        refine mr_dup2 hG dX1_addRecord_59 rfl rfl ?_
        refine f1_ld_2 hG dX1_addRecord_60 j rfl hj ?_
        refine mr_top ((by simp [ua, hc] : _ = nI c)) ?_
        refine mr_iconst hG 1 dX1_addRecord_61 (by decide) ?_
        refine mr_iaddN hG dX1_addRecord_62 ?_
        refine mr_i2b hG dX1_addRecord_63 (i8 _ (by omega)) ?_
        refine f1_st_2 hG dX1_addRecord_64 j rfl hj (nar_b (by omega)) ?_
        refine mr_aload0 hG dX1_addRecord_65 ?_
        refine f1_get_2 hG dX1_addRecord_66 ?_
        refine mr_iload1 hG dX1_addRecord_69 ?_
        refine f1_ld_2 hG dX1_addRecord_70 j rfl hj ?_
        refine mr_top ((by simp [ua, upd] : _ = nI (c + 1))) ?_
        show G 71 _ _ _ _
        exact mr_iret hG dX1_addRecord_71 ⟨rfl, rfl, rfl⟩
      · omega
    · omega
theorem ct_mapping_bad {m f o : Int32} (hs : m < nI 1 ∨ nI 16 < m) : mr_Con K1 yX1_mapping cX1_mapping 4 (some .boolean) 0 0 [.int m, .int f, .int o] fi ar (fun r fi' ar' => fi' = fi ∧ ar' = ar ∧ r = nI 0) := by
  refine mr_con ok1 (by decide) rfl 0 rfl rfl ?_
  intro h ad G hG
  show G 0 [.ref h, .int m, .int f, .int o] [] fi ar
  refine mr_iload1 hG dX1_mapping_0 ?_
  refine mr_iconst hG 1 dX1_mapping_1 (by decide) ?_
  show G 2 _ _ _ _
  refine mr_icmp_lt hG 11 dX1_mapping_2 (by decide) (fun c => ?_) (fun c => ?_)
  · refine mr_iconst hG 0 dX1_mapping_11 (by decide) ?_
    show G 12 _ _ _ _
    exact mr_zret hG dX1_mapping_12 nz0 ⟨rfl, rfl, rfl⟩
  · refine mr_iload1 hG dX1_mapping_5 ?_
    refine mr_bipush hG (nI 16) dX1_mapping_6 (by decide) ?_
    show G 8 _ _ _ _
    refine mr_icmp_le hG 13 dX1_mapping_8 (by decide) (fun c2 => ?_) (fun c2 => ?_)
    · exact absurd c2 (lt_nle (hs.resolve_left c))
    · refine mr_iconst hG 0 dX1_mapping_11 (by decide) ?_
      show G 12 _ _ _ _
      exact mr_zret hG dX1_mapping_12 nz0 ⟨rfl, rfl, rfl⟩
theorem ct_mapping_ok {m : Nat} {f o : Int32} (h1 : 1 ≤ m) (h16 : m ≤ 16) : mr_Con K1 yX1_mapping cX1_mapping 4 (some .boolean) 0 0 [.int (nI m), .int f, .int o] fi ar (fun r fi' ar' => fi' = upd (upd (upd fi 5 (nI m)) 6 f) 7 o ∧ ar' = ar ∧ r = nI 1) := by
  refine mr_con ok1 (by decide) rfl 0 rfl rfl ?_
  intro h ad G hG
  show G 0 [.ref h, .int (nI m), .int f, .int o] [] fi ar
  refine mr_iload1 hG dX1_mapping_0 ?_
  refine mr_iconst hG 1 dX1_mapping_1 (by decide) ?_
  show G 2 _ _ _ _
  refine mr_icmp_ltN hG 11 dX1_mapping_2 (by decide) (by omega) (by omega) (fun c => ?_) (fun c => ?_)
  · omega
  · refine mr_iload1 hG dX1_mapping_5 ?_
    refine mr_bipush hG (nI 16) dX1_mapping_6 (by decide) ?_
    show G 8 _ _ _ _
    refine mr_icmp_leN hG 13 dX1_mapping_8 (by decide) (by omega) (by omega) (fun c2 => ?_) (fun c2 => ?_)
    · refine mr_aload0 hG dX1_mapping_13 ?_
      refine mr_iload1 hG dX1_mapping_14 ?_
      refine f1_put_5 hG dX1_mapping_15 ?_
      refine mr_aload0 hG dX1_mapping_18 ?_
      refine mr_iload2 hG dX1_mapping_19 ?_
      refine f1_put_6 hG dX1_mapping_20 ?_
      refine mr_aload0 hG dX1_mapping_23 ?_
      refine mr_iload3 hG dX1_mapping_24 ?_
      refine f1_put_7 hG dX1_mapping_25 ?_
      refine mr_iconst hG 1 dX1_mapping_28 (by decide) ?_
      show G 29 _ _ _ _
      exact mr_zret hG dX1_mapping_29 nz1 ⟨rfl, rfl, rfl⟩
    · omega
theorem ct_bounds {a b : Int32} : mr_Con K1 yX1_bounds cX1_bounds 3 none 0 0 [.int a, .int b] fi ar (fun r fi' ar' => fi' = upd (upd fi 8 a) 9 b ∧ ar' = ar) := by
  refine mr_con ok1 (by decide) rfl 0 rfl rfl ?_
  intro h ad G hG
  show G 0 [.ref h, .int a, .int b] [] fi ar
  refine mr_aload0 hG dX1_bounds_0 ?_
  refine mr_iload1 hG dX1_bounds_1 ?_
  refine f1_put_8 hG dX1_bounds_2 ?_
  refine mr_aload0 hG dX1_bounds_5 ?_
  refine mr_iload2 hG dX1_bounds_6 ?_
  refine f1_put_9 hG dX1_bounds_7 ?_
  show G 10 _ _ _ _
  exact mr_vret hG dX1_bounds_10 ⟨rfl, rfl⟩
theorem ct_failures_bad {z i t : Int32} (hs : (i < 0 ∨ nI 3 < i) ∨ (t < 0 ∨ nI 3 < t)) : mr_Con K1 yX1_failures cX1_failures 4 (some .boolean) 0 0 [.int z, .int i, .int t] fi ar (fun r fi' ar' => fi' = fi ∧ ar' = ar ∧ r = nI 0) := by
  refine mr_con ok1 (by decide) rfl 0 rfl rfl ?_
  intro h ad G hG
  show G 0 [.ref h, .int z, .int i, .int t] [] fi ar
  refine mr_iload2 hG dX1_failures_0 ?_
  show G 1 _ _ _ _
  refine mr_if_lt hG 18 dX1_failures_1 (by decide) (fun c => ?_) (fun c => ?_)
  · refine mr_iconst hG 0 dX1_failures_18 (by decide) ?_
    show G 19 _ _ _ _
    exact mr_zret hG dX1_failures_19 nz0 ⟨rfl, rfl, rfl⟩
  · refine mr_iload2 hG dX1_failures_4 ?_
    refine mr_iconst hG 3 dX1_failures_5 (by decide) ?_
    show G 6 _ _ _ _
    refine mr_icmp_gt hG 18 dX1_failures_6 (by decide) (fun c2 => ?_) (fun c2 => ?_)
    · refine mr_iconst hG 0 dX1_failures_18 (by decide) ?_
      show G 19 _ _ _ _
      exact mr_zret hG dX1_failures_19 nz0 ⟨rfl, rfl, rfl⟩
    · refine mr_iload3 hG dX1_failures_9 ?_
      show G 10 _ _ _ _
      refine mr_if_lt hG 18 dX1_failures_10 (by decide) (fun c3 => ?_) (fun c3 => ?_)
      · refine mr_iconst hG 0 dX1_failures_18 (by decide) ?_
        show G 19 _ _ _ _
        exact mr_zret hG dX1_failures_19 nz0 ⟨rfl, rfl, rfl⟩
      · refine mr_iload3 hG dX1_failures_13 ?_
        refine mr_iconst hG 3 dX1_failures_14 (by decide) ?_
        show G 15 _ _ _ _
        refine mr_icmp_le hG 20 dX1_failures_15 (by decide) (fun c4 => ?_) (fun c4 => ?_)
        · exfalso
          rcases hs with (h1 | h1) | (h1 | h1)
          · exact c h1
          · exact c2 h1
          · exact c3 h1
          · exact le_nlt c4 h1
        · refine mr_iconst hG 0 dX1_failures_18 (by decide) ?_
          show G 19 _ _ _ _
          exact mr_zret hG dX1_failures_19 nz0 ⟨rfl, rfl, rfl⟩
theorem ct_failures_map {i t : Nat} (hi : i ≤ 3) (ht : t ≤ 3) : mr_Con K1 yX1_failures cX1_failures 4 (some .boolean) 0 0 [.int (nI 0), .int (nI i), .int (nI t)] fi ar (fun r fi' ar' => fi' = fi ∧ ar' = ua ar 10 i (nI t) ∧ r = nI 1) := by
  refine mr_con ok1 (by decide) rfl 0 rfl rfl ?_
  intro h ad G hG
  show G 0 [.ref h, .int (nI 0), .int (nI i), .int (nI t)] [] fi ar
  refine mr_iload2 hG dX1_failures_0 ?_
  show G 1 _ _ _ _
  refine mr_if_lt hG 18 dX1_failures_1 (by decide) (fun c => ?_) (fun c => ?_)
  · exact absurd c (n_neg (by omega))
  · refine mr_iload2 hG dX1_failures_4 ?_
    refine mr_iconst hG 3 dX1_failures_5 (by decide) ?_
    show G 6 _ _ _ _
    refine mr_icmp_gtN hG 18 dX1_failures_6 (by decide) (by omega) (by omega) (fun c2 => ?_) (fun c2 => ?_)
    · omega
    · refine mr_iload3 hG dX1_failures_9 ?_
      show G 10 _ _ _ _
      refine mr_if_lt hG 18 dX1_failures_10 (by decide) (fun c3 => ?_) (fun c3 => ?_)
      · exact absurd c3 (n_neg (by omega))
      · refine mr_iload3 hG dX1_failures_13 ?_
        refine mr_iconst hG 3 dX1_failures_14 (by decide) ?_
        show G 15 _ _ _ _
        refine mr_icmp_leN hG 20 dX1_failures_15 (by decide) (by omega) (by omega) (fun c4 => ?_) (fun c4 => ?_)
        · refine mr_iload1 hG dX1_failures_20 ?_
          show G 21 _ _ _ _
          refine mr_if_eq hG 34 dX1_failures_21 (by decide) (fun c5 => ?_) (fun c5 => ?_)
          · refine mr_iload1 hG dX1_failures_34 ?_
            show G 35 _ _ _ _
            refine mr_if_eq hG 49 dX1_failures_35 (by decide) (fun c6 => ?_) (fun c6 => ?_)
            · refine mr_aload0 hG dX1_failures_49 ?_
              refine f1_get_10 hG dX1_failures_50 ?_
              refine mr_iload2 hG dX1_failures_53 ?_
              refine mr_iload3 hG dX1_failures_54 ?_
              refine mr_i2b hG dX1_failures_55 (i8 _ (by omega)) ?_
              refine f1_st_10 hG dX1_failures_56 i rfl (by omega) (nar_b (by omega)) ?_
              refine mr_iconst hG 1 dX1_failures_57 (by decide) ?_
              show G 58 _ _ _ _
              exact mr_zret hG dX1_failures_58 nz1 ⟨rfl, rfl, rfl⟩
            · exact absurd nI_0 c6
          · exact absurd nI_0 c5
        · omega
theorem ct_failures_red {P i t : Nat} (hP : fi 0 = nI P) (hP4 : P ≤ 4) (hi : i ≤ 3) (ht : t ≤ 3) : mr_Con K1 yX1_failures cX1_failures 4 (some .boolean) 0 0 [.int (nI 1), .int (nI i), .int (nI t)] fi ar (fun r fi' ar' => fi' = fi ∧ (P ≤ i → ar' = ar ∧ r = nI 0) ∧ (i < P → ar' = ua ar 11 i (nI t) ∧ r = nI 1)) := by
  refine mr_con ok1 (by decide) rfl 0 rfl rfl ?_
  intro h ad G hG
  show G 0 [.ref h, .int (nI 1), .int (nI i), .int (nI t)] [] fi ar
  refine mr_iload2 hG dX1_failures_0 ?_
  show G 1 _ _ _ _
  refine mr_if_lt hG 18 dX1_failures_1 (by decide) (fun c => ?_) (fun c => ?_)
  · exact absurd c (n_neg (by omega))
  · refine mr_iload2 hG dX1_failures_4 ?_
    refine mr_iconst hG 3 dX1_failures_5 (by decide) ?_
    show G 6 _ _ _ _
    refine mr_icmp_gtN hG 18 dX1_failures_6 (by decide) (by omega) (by omega) (fun c2 => ?_) (fun c2 => ?_)
    · omega
    · refine mr_iload3 hG dX1_failures_9 ?_
      show G 10 _ _ _ _
      refine mr_if_lt hG 18 dX1_failures_10 (by decide) (fun c3 => ?_) (fun c3 => ?_)
      · exact absurd c3 (n_neg (by omega))
      · refine mr_iload3 hG dX1_failures_13 ?_
        refine mr_iconst hG 3 dX1_failures_14 (by decide) ?_
        show G 15 _ _ _ _
        refine mr_icmp_leN hG 20 dX1_failures_15 (by decide) (by omega) (by omega) (fun c4 => ?_) (fun c4 => ?_)
        · refine mr_iload1 hG dX1_failures_20 ?_
          show G 21 _ _ _ _
          refine mr_if_eq hG 34 dX1_failures_21 (by decide) (fun c5 => ?_) (fun c5 => ?_)
          · exact absurd c5 (by decide)
          · refine mr_iload2 hG dX1_failures_24 ?_
            refine mr_aload0 hG dX1_failures_25 ?_
            refine f1_get_0 hG dX1_failures_26 ?_
            refine mr_top (hP) ?_
            show G 29 _ _ _ _
            refine mr_icmp_ltN hG 34 dX1_failures_29 (by decide) (by omega) (by omega) (fun c6 => ?_) (fun c6 => ?_)
            · refine mr_iload1 hG dX1_failures_34 ?_
              show G 35 _ _ _ _
              refine mr_if_eq hG 49 dX1_failures_35 (by decide) (fun c7 => ?_) (fun c7 => ?_)
              · exact absurd c7 (by decide)
              · refine mr_aload0 hG dX1_failures_38 ?_
                refine f1_get_11 hG dX1_failures_39 ?_
                refine mr_iload2 hG dX1_failures_42 ?_
                refine mr_iload3 hG dX1_failures_43 ?_
                refine mr_i2b hG dX1_failures_44 (i8 _ (by omega)) ?_
                refine f1_st_11 hG dX1_failures_45 i rfl (by omega) (nar_b (by omega)) ?_
                refine mr_goto hG 57 dX1_failures_46 (by decide) ?_
                refine mr_iconst hG 1 dX1_failures_57 (by decide) ?_
                show G 58 _ _ _ _
                exact mr_zret hG dX1_failures_58 nz1 ⟨rfl, fun h9 => by omega, fun _ => ⟨rfl, rfl⟩⟩
            · refine mr_iconst hG 0 dX1_failures_32 (by decide) ?_
              show G 33 _ _ _ _
              exact mr_zret hG dX1_failures_33 nz0 ⟨rfl, fun _ => ⟨rfl, rfl⟩, fun h9 => by omega⟩
        · omega
theorem ct_results_bad {P : Nat} {x : Int32} (hP : fi 0 = nI P) (hx : x < 0 ∨ nI P ≤ x) : mr_Con K1 yX1_results cX1_results 2 (some .int) 0 0 [.int x] fi ar (fun r fi' ar' => fi' = fi ∧ ar' = ar ∧ r = -1) := by
  refine mr_con ok1 (by decide) rfl 0 rfl rfl ?_
  intro h ad G hG
  show G 0 [.ref h, .int x] [] fi ar
  refine mr_iload1 hG dX1_results_0 ?_
  show G 1 _ _ _ _
  refine mr_if_lt hG 12 dX1_results_1 (by decide) (fun c => ?_) (fun c => ?_)
  · refine mr_iconstm hG (-1) dX1_results_12 (by decide) ?_
    show G 13 _ _ _ _
    exact mr_iret hG dX1_results_13 ⟨rfl, rfl, rfl⟩
  · refine mr_iload1 hG dX1_results_4 ?_
    refine mr_aload0 hG dX1_results_5 ?_
    refine f1_get_0 hG dX1_results_6 ?_
    refine mr_top (hP) ?_
    show G 9 _ _ _ _
    refine mr_icmp_lt hG 14 dX1_results_9 (by decide) (fun c2 => ?_) (fun c2 => ?_)
    · exact absurd c2 (le_nlt (hx.resolve_left c))
    · refine mr_iconstm hG (-1) dX1_results_12 (by decide) ?_
      show G 13 _ _ _ _
      exact mr_iret hG dX1_results_13 ⟨rfl, rfl, rfl⟩
theorem ct_results_ok {P j a b : Nat} (hP : fi 0 = nI P) (hP4 : P ≤ 4) (hj : j < P) (ha : ar 24 j = nI a) (hb : ar 24 (j + 1) = nI b) (hab : a ≤ b) : mr_Con K1 yX1_results cX1_results 2 (some .int) 0 0 [.int (nI j)] fi ar (fun r fi' ar' => fi' = fi ∧ ar' = ar ∧ r = nI (b - a)) := by
  refine mr_con ok1 (by decide) rfl 0 rfl rfl ?_
  intro h ad G hG
  show G 0 [.ref h, .int (nI j)] [] fi ar
  refine mr_iload1 hG dX1_results_0 ?_
  show G 1 _ _ _ _
  refine mr_if_lt hG 12 dX1_results_1 (by decide) (fun c => ?_) (fun c => ?_)
  · exact absurd c (n_neg (by omega))
  · refine mr_iload1 hG dX1_results_4 ?_
    refine mr_aload0 hG dX1_results_5 ?_
    refine f1_get_0 hG dX1_results_6 ?_
    refine mr_top (hP) ?_
    show G 9 _ _ _ _
    refine mr_icmp_ltN hG 14 dX1_results_9 (by decide) (by omega) (by omega) (fun c2 => ?_) (fun c2 => ?_)
    · refine mr_aload0 hG dX1_results_14 ?_
      refine f1_get_24 hG dX1_results_15 ?_
      refine mr_iload1 hG dX1_results_18 ?_
      refine mr_iconst hG 1 dX1_results_19 (by decide) ?_
      refine mr_iaddN hG dX1_results_20 ?_
      refine f1_ld_24 hG dX1_results_21 (j + 1) rfl (by omega) ?_
      refine mr_top (hb) ?_
      refine mr_aload0 hG dX1_results_22 ?_
      refine f1_get_24 hG dX1_results_23 ?_
      refine mr_iload1 hG dX1_results_26 ?_
      refine f1_ld_24 hG dX1_results_27 j rfl (by omega) ?_
      refine mr_top (ha) ?_
      refine mr_isubN hG dX1_results_28 hab ?_
      show G 29 _ _ _ _
      exact mr_iret hG dX1_results_29 ⟨rfl, rfl, rfl⟩
    · omega
theorem ct_isResult_bad {P : Nat} {x i : Int32} (hP : fi 0 = nI P) (hx : (x < 0 ∨ nI P ≤ x) ∨ i < 0) : mr_Con K1 yX1_isResult cX1_isResult 3 (some .boolean) 0 0 [.int x, .int i] fi ar (fun r fi' ar' => fi' = fi ∧ ar' = ar ∧ r = nI 0) := by
  refine mr_con ok1 (by decide) rfl 0 rfl rfl ?_
  intro h ad G hG
  show G 0 [.ref h, .int x, .int i] [] fi ar
  refine mr_iload1 hG dX1_isResult_0 ?_
  show G 1 _ _ _ _
  refine mr_if_lt hG 16 dX1_isResult_1 (by decide) (fun c => ?_) (fun c => ?_)
  · refine mr_iconst hG 0 dX1_isResult_16 (by decide) ?_
    show G 17 _ _ _ _
    exact mr_zret hG dX1_isResult_17 nz0 ⟨rfl, rfl, rfl⟩
  · refine mr_iload1 hG dX1_isResult_4 ?_
    refine mr_aload0 hG dX1_isResult_5 ?_
    refine f1_get_0 hG dX1_isResult_6 ?_
    refine mr_top (hP) ?_
    show G 9 _ _ _ _
    refine mr_icmp_ge hG 16 dX1_isResult_9 (by decide) (fun c2 => ?_) (fun c2 => ?_)
    · refine mr_iconst hG 0 dX1_isResult_16 (by decide) ?_
      show G 17 _ _ _ _
      exact mr_zret hG dX1_isResult_17 nz0 ⟨rfl, rfl, rfl⟩
    · refine mr_iload2 hG dX1_isResult_12 ?_
      show G 13 _ _ _ _
      refine mr_if_ge hG 18 dX1_isResult_13 (by decide) (fun c3 => ?_) (fun c3 => ?_)
      · exfalso
        rcases hx with (h1 | h1) | h1
        · exact c h1
        · exact c2 h1
        · exact le_nlt c3 h1
      · refine mr_iconst hG 0 dX1_isResult_16 (by decide) ?_
        show G 17 _ _ _ _
        exact mr_zret hG dX1_isResult_17 nz0 ⟨rfl, rfl, rfl⟩
theorem ct_isResult_ok {P j a b n : Nat} (hP : fi 0 = nI P) (hP4 : P ≤ 4) (hj : j < P) (ha : ar 24 j = nI a) (hb : ar 24 (j + 1) = nI b) (hab : a ≤ b) (hb2 : b < 100) (hn : n < 2 ^ 31) : mr_Con K1 yX1_isResult cX1_isResult 3 (some .boolean) 0 0 [.int (nI j), .int (nI n)] fi ar (fun r fi' ar' => fi' = fi ∧ ar' = ar ∧ r = if a + n < b then nI 1 else nI 0) := by
  refine mr_con ok1 (by decide) rfl 0 rfl rfl ?_
  intro h ad G hG
  show G 0 [.ref h, .int (nI j), .int (nI n)] [] fi ar
  refine mr_iload1 hG dX1_isResult_0 ?_
  show G 1 _ _ _ _
  refine mr_if_lt hG 16 dX1_isResult_1 (by decide) (fun c => ?_) (fun c => ?_)
  · exact absurd c (n_neg (by omega))
  · refine mr_iload1 hG dX1_isResult_4 ?_
    refine mr_aload0 hG dX1_isResult_5 ?_
    refine f1_get_0 hG dX1_isResult_6 ?_
    refine mr_top (hP) ?_
    show G 9 _ _ _ _
    refine mr_icmp_geN hG 16 dX1_isResult_9 (by decide) (by omega) (by omega) (fun c2 => ?_) (fun c2 => ?_)
    · omega
    · refine mr_iload2 hG dX1_isResult_12 ?_
      show G 13 _ _ _ _
      refine mr_if_ge hG 18 dX1_isResult_13 (by decide) (fun c3 => ?_) (fun c3 => ?_)
      · refine mr_iload2 hG dX1_isResult_18 ?_
        refine mr_aload0 hG dX1_isResult_19 ?_
        refine f1_get_24 hG dX1_isResult_20 ?_
        refine mr_iload1 hG dX1_isResult_23 ?_
        refine mr_iconst hG 1 dX1_isResult_24 (by decide) ?_
        refine mr_iaddN hG dX1_isResult_25 ?_
        refine f1_ld_24 hG dX1_isResult_26 (j + 1) rfl (by omega) ?_
        refine mr_top (hb) ?_
        refine mr_aload0 hG dX1_isResult_27 ?_
        refine f1_get_24 hG dX1_isResult_28 ?_
        refine mr_iload1 hG dX1_isResult_31 ?_
        refine f1_ld_24 hG dX1_isResult_32 j rfl (by omega) ?_
        refine mr_top (ha) ?_
        refine mr_isubN hG dX1_isResult_33 hab ?_
        show G 34 _ _ _ _
        refine mr_icmp_geN hG 41 dX1_isResult_34 (by decide) (by omega) (by omega) (fun c4 => ?_) (fun c4 => ?_)
        · refine mr_iconst hG 0 dX1_isResult_41 (by decide) ?_
          show G 42 _ _ _ _
          exact mr_zret hG dX1_isResult_42 nz0 ⟨rfl, rfl, by rw [if_neg (by omega)]⟩
        · refine mr_iconst hG 1 dX1_isResult_37 (by decide) ?_
          refine mr_goto hG 42 dX1_isResult_38 (by decide) ?_
          show G 42 _ _ _ _
          exact mr_zret hG dX1_isResult_42 nz1 ⟨rfl, rfl, by rw [if_pos (by omega)]⟩
      · exact absurd (nI_pos' hn) c3
theorem co_isResult {a b : Value} : mr_callok K1 yX1_isResult [a, b] := ⟨rfl, by decide, by decide, by show _ = some 2; decide +kernel⟩
theorem wd_isResult : GoodIn lw_all (wsV K1.1 106 K1.1 yX1_isResult (ws_ yX1_isResult cX1_isResult 3 (some .boolean))) := lw_V q192 q194 qs12 q17 q195
theorem ct_keyAt_bad {P : Nat} {x i : Int32} (hP : fi 0 = nI P) (hx : (x < 0 ∨ nI P ≤ x) ∨ i < 0) : mr_Con K1 yX1_keyAt cX1_keyAt 3 (some .int) 1 30 [.int x, .int i] fi ar (fun r fi' ar' => fi' = fi ∧ ar' = ar ∧ r = -1) := by
  refine mr_con ok1 (by decide) rfl 0 rfl rfl ?_
  intro h ad G hG
  show G 0 [.ref h, .int x, .int i] [] fi ar
  refine mr_aload0 hG dX1_keyAt_0 ?_
  refine mr_iload1 hG dX1_keyAt_1 ?_
  refine mr_iload2 hG dX1_keyAt_2 ?_
  show G 3 _ _ _ _
  refine mr_calli hG (ct_isResult_bad (i := i) hP hx) wd_isResult co_isResult (by decide) rfl (by decide) dX1_keyAt_3 ?_
  rintro r fi' ar' ⟨rfl, rfl, rfl⟩
  refine mr_if_ne hG 11 dX1_keyAt_6 (by decide) (fun c => ?_) (fun c => ?_)
  · exact absurd nI_0 c
  · refine mr_iconstm hG (-1) dX1_keyAt_9 (by decide) ?_
    show G 10 _ _ _ _
    exact mr_iret hG dX1_keyAt_10 ⟨rfl, rfl, rfl⟩
theorem ct_keyAt_no {P j a b n : Nat} (hP : fi 0 = nI P) (hP4 : P ≤ 4) (hj : j < P) (ha : ar 24 j = nI a) (hb : ar 24 (j + 1) = nI b) (hab : a ≤ b) (hb2 : b < 100) (hn : n < 2 ^ 31) (hno : b ≤ a + n) : mr_Con K1 yX1_keyAt cX1_keyAt 3 (some .int) 1 30 [.int (nI j), .int (nI n)] fi ar (fun r fi' ar' => fi' = fi ∧ ar' = ar ∧ r = -1) := by
  refine mr_con ok1 (by decide) rfl 0 rfl rfl ?_
  intro h ad G hG
  show G 0 [.ref h, .int (nI j), .int (nI n)] [] fi ar
  refine mr_aload0 hG dX1_keyAt_0 ?_
  refine mr_iload1 hG dX1_keyAt_1 ?_
  refine mr_iload2 hG dX1_keyAt_2 ?_
  show G 3 _ _ _ _
  refine mr_calli hG (ct_isResult_ok hP hP4 hj ha hb hab hb2 hn) wd_isResult co_isResult (by decide) rfl (by decide) dX1_keyAt_3 ?_
  rintro r fi' ar' ⟨rfl, rfl, rfl⟩
  rw [if_neg (by omega)]
  refine mr_if_ne hG 11 dX1_keyAt_6 (by decide) (fun c => ?_) (fun c => ?_)
  · exact absurd nI_0 c
  · refine mr_iconstm hG (-1) dX1_keyAt_9 (by decide) ?_
    show G 10 _ _ _ _
    exact mr_iret hG dX1_keyAt_10 ⟨rfl, rfl, rfl⟩
theorem ct_keyAt_ok {P j a b n k : Nat} (hP : fi 0 = nI P) (hP4 : P ≤ 4) (hj : j < P) (ha : ar 24 j = nI a) (hb : ar 24 (j + 1) = nI b) (hab : a ≤ b) (hb2 : b ≤ 16) (hn : a + n < b) (hk : ar 25 (a + n) = nI k) : mr_Con K1 yX1_keyAt cX1_keyAt 3 (some .int) 1 30 [.int (nI j), .int (nI n)] fi ar (fun r fi' ar' => fi' = fi ∧ ar' = ar ∧ r = nI k) := by
  refine mr_con ok1 (by decide) rfl 0 rfl rfl ?_
  intro h ad G hG
  show G 0 [.ref h, .int (nI j), .int (nI n)] [] fi ar
  refine mr_aload0 hG dX1_keyAt_0 ?_
  refine mr_iload1 hG dX1_keyAt_1 ?_
  refine mr_iload2 hG dX1_keyAt_2 ?_
  show G 3 _ _ _ _
  refine mr_calli hG (ct_isResult_ok hP hP4 hj ha hb hab (by omega) (by omega)) wd_isResult co_isResult (by decide) rfl (by decide) dX1_keyAt_3 ?_
  rintro r fi' ar' ⟨rfl, rfl, rfl⟩
  rw [if_pos hn]
  refine mr_if_ne hG 11 dX1_keyAt_6 (by decide) (fun c => ?_) (fun c => ?_)
  · refine mr_aload0 hG dX1_keyAt_11 ?_
    refine f1_get_25 hG dX1_keyAt_12 ?_
    refine mr_aload0 hG dX1_keyAt_15 ?_
    refine f1_get_24 hG dX1_keyAt_16 ?_
    refine mr_iload1 hG dX1_keyAt_19 ?_
    refine f1_ld_24 hG dX1_keyAt_20 j rfl (by omega) ?_
    refine mr_top (ha) ?_
    refine mr_iload2 hG dX1_keyAt_21 ?_
    refine mr_iaddN hG dX1_keyAt_22 ?_
    refine f1_ld_25 hG dX1_keyAt_23 (a + n) rfl (by omega) ?_
    refine mr_top (hk) ?_
    show G 24 _ _ _ _
    exact mr_iret hG dX1_keyAt_24 ⟨rfl, rfl, rfl⟩
  · exact absurd c (by decide)
theorem ct_valueAt_bad {P : Nat} {x i : Int32} (hP : fi 0 = nI P) (hx : (x < 0 ∨ nI P ≤ x) ∨ i < 0) : mr_Con K1 yX1_valueAt cX1_valueAt 3 (some .int) 1 30 [.int x, .int i] fi ar (fun r fi' ar' => fi' = fi ∧ ar' = ar ∧ r = nI 0) := by
  refine mr_con ok1 (by decide) rfl 0 rfl rfl ?_
  intro h ad G hG
  show G 0 [.ref h, .int x, .int i] [] fi ar
  refine mr_aload0 hG dX1_valueAt_0 ?_
  refine mr_iload1 hG dX1_valueAt_1 ?_
  refine mr_iload2 hG dX1_valueAt_2 ?_
  show G 3 _ _ _ _
  refine mr_calli hG (ct_isResult_bad (i := i) hP hx) wd_isResult co_isResult (by decide) rfl (by decide) dX1_valueAt_3 ?_
  rintro r fi' ar' ⟨rfl, rfl, rfl⟩
  refine mr_if_ne hG 11 dX1_valueAt_6 (by decide) (fun c => ?_) (fun c => ?_)
  · exact absurd nI_0 c
  · refine mr_iconst hG 0 dX1_valueAt_9 (by decide) ?_
    show G 10 _ _ _ _
    exact mr_iret hG dX1_valueAt_10 ⟨rfl, rfl, rfl⟩
theorem ct_valueAt_no {P j a b n : Nat} (hP : fi 0 = nI P) (hP4 : P ≤ 4) (hj : j < P) (ha : ar 24 j = nI a) (hb : ar 24 (j + 1) = nI b) (hab : a ≤ b) (hb2 : b < 100) (hn : n < 2 ^ 31) (hno : b ≤ a + n) : mr_Con K1 yX1_valueAt cX1_valueAt 3 (some .int) 1 30 [.int (nI j), .int (nI n)] fi ar (fun r fi' ar' => fi' = fi ∧ ar' = ar ∧ r = nI 0) := by
  refine mr_con ok1 (by decide) rfl 0 rfl rfl ?_
  intro h ad G hG
  show G 0 [.ref h, .int (nI j), .int (nI n)] [] fi ar
  refine mr_aload0 hG dX1_valueAt_0 ?_
  refine mr_iload1 hG dX1_valueAt_1 ?_
  refine mr_iload2 hG dX1_valueAt_2 ?_
  show G 3 _ _ _ _
  refine mr_calli hG (ct_isResult_ok hP hP4 hj ha hb hab hb2 hn) wd_isResult co_isResult (by decide) rfl (by decide) dX1_valueAt_3 ?_
  rintro r fi' ar' ⟨rfl, rfl, rfl⟩
  rw [if_neg (by omega)]
  refine mr_if_ne hG 11 dX1_valueAt_6 (by decide) (fun c => ?_) (fun c => ?_)
  · exact absurd nI_0 c
  · refine mr_iconst hG 0 dX1_valueAt_9 (by decide) ?_
    show G 10 _ _ _ _
    exact mr_iret hG dX1_valueAt_10 ⟨rfl, rfl, rfl⟩
theorem ct_valueAt_ok {P j a b n : Nat} (hP : fi 0 = nI P) (hP4 : P ≤ 4) (hj : j < P) (ha : ar 24 j = nI a) (hb : ar 24 (j + 1) = nI b) (hab : a ≤ b) (hb2 : b ≤ 16) (hn : a + n < b) : mr_Con K1 yX1_valueAt cX1_valueAt 3 (some .int) 1 30 [.int (nI j), .int (nI n)] fi ar (fun r fi' ar' => fi' = fi ∧ ar' = ar ∧ r = ar 26 (a + n)) := by
  refine mr_con ok1 (by decide) rfl 0 rfl rfl ?_
  intro h ad G hG
  show G 0 [.ref h, .int (nI j), .int (nI n)] [] fi ar
  refine mr_aload0 hG dX1_valueAt_0 ?_
  refine mr_iload1 hG dX1_valueAt_1 ?_
  refine mr_iload2 hG dX1_valueAt_2 ?_
  show G 3 _ _ _ _
  refine mr_calli hG (ct_isResult_ok hP hP4 hj ha hb hab (by omega) (by omega)) wd_isResult co_isResult (by decide) rfl (by decide) dX1_valueAt_3 ?_
  rintro r fi' ar' ⟨rfl, rfl, rfl⟩
  rw [if_pos hn]
  refine mr_if_ne hG 11 dX1_valueAt_6 (by decide) (fun c => ?_) (fun c => ?_)
  · refine mr_aload0 hG dX1_valueAt_11 ?_
    refine f1_get_26 hG dX1_valueAt_12 ?_
    refine mr_aload0 hG dX1_valueAt_15 ?_
    refine f1_get_24 hG dX1_valueAt_16 ?_
    refine mr_iload1 hG dX1_valueAt_19 ?_
    refine f1_ld_24 hG dX1_valueAt_20 j rfl (by omega) ?_
    refine mr_top (ha) ?_
    refine mr_iload2 hG dX1_valueAt_21 ?_
    refine mr_iaddN hG dX1_valueAt_22 ?_
    refine f1_ld_26 hG dX1_valueAt_23 (a + n) rfl (by omega) ?_
    show G 24 _ _ _ _
    exact mr_iret hG dX1_valueAt_24 ⟨rfl, rfl, rfl⟩
  · exact absurd c (by decide)
theorem ct_mapped : mr_Con K1 yX1_mapped cX1_mapped 1 (some .int) 0 0 [] fi ar (fun r fi' ar' => fi' = fi ∧ ar' = ar ∧ r = fi 16) := by
  refine mr_con ok1 (by decide) rfl 0 rfl rfl ?_
  intro h ad G hG
  show G 0 [.ref h] [] fi ar
  refine mr_aload0 hG dX1_mapped_0 ?_
  refine f1_get_16 hG dX1_mapped_1 ?_
  show G 4 _ _ _ _
  exact mr_iret hG dX1_mapped_4 ⟨rfl, rfl, rfl⟩
theorem ct_emptySplit_bad {s : Int32} (hs : s < 0 ∨ nI 3 < s) : mr_Con K1 yX1_emptySplit cX1_emptySplit 3 (some .int) 0 0 [.int s] fi ar (fun r fi' ar' => fi' = fi ∧ ar' = ar ∧ r = -1) := by
  refine mr_con ok1 (by decide) rfl 1 rfl rfl ?_
  intro h ad G hG
  show G 0 [.ref h, .int s, .null] [] fi ar
  refine mr_iload1 hG dX1_emptySplit_0 ?_
  show G 1 _ _ _ _
  refine mr_if_lt hG 9 dX1_emptySplit_1 (by decide) (fun c => ?_) (fun c => ?_)
  · refine mr_iconstm hG (-1) dX1_emptySplit_9 (by decide) ?_
    show G 10 _ _ _ _
    exact mr_iret hG dX1_emptySplit_10 ⟨rfl, rfl, rfl⟩
  · refine mr_iload1 hG dX1_emptySplit_4 ?_
    refine mr_iconst hG 3 dX1_emptySplit_5 (by decide) ?_
    show G 6 _ _ _ _
    refine mr_icmp_le hG 11 dX1_emptySplit_6 (by decide) (fun c2 => ?_) (fun c2 => ?_)
    · exact absurd c2 (lt_nle (hs.resolve_left c))
    · refine mr_iconstm hG (-1) dX1_emptySplit_9 (by decide) ?_
      show G 10 _ _ _ _
      exact mr_iret hG dX1_emptySplit_10 ⟨rfl, rfl, rfl⟩
theorem ct_emptySplit_ok {j : Nat} (hj : j < 4) : mr_Con K1 yX1_emptySplit cX1_emptySplit 3 (some .int) 0 0 [.int (nI j)] fi ar (fun r fi' ar' => fi' = fi ∧ ar' = ua ar 2 j (nI 0) ∧ r = ar 2 j) := by
  refine mr_con ok1 (by decide) rfl 1 rfl rfl ?_
  intro h ad G hG
  show G 0 [.ref h, .int (nI j), .null] [] fi ar
  refine mr_iload1 hG dX1_emptySplit_0 ?_
  show G 1 _ _ _ _
  refine mr_if_lt hG 9 dX1_emptySplit_1 (by decide) (fun c => ?_) (fun c => ?_)
  · exact absurd c (n_neg (by omega))
  · refine mr_iload1 hG dX1_emptySplit_4 ?_
    refine mr_iconst hG 3 dX1_emptySplit_5 (by decide) ?_
    show G 6 _ _ _ _
    refine mr_icmp_leN hG 11 dX1_emptySplit_6 (by decide) (by omega) (by omega) (fun c2 => ?_) (fun c2 => ?_)
    · refine mr_aload0 hG dX1_emptySplit_11 ?_
      refine f1_get_2 hG dX1_emptySplit_12 ?_
      refine mr_iload1 hG dX1_emptySplit_15 ?_
      refine f1_ld_2 hG dX1_emptySplit_16 j rfl hj ?_
      refine mr_istore2 hG dX1_emptySplit_17 ?_
      refine mr_aload0 hG dX1_emptySplit_18 ?_
      refine f1_get_2 hG dX1_emptySplit_19 ?_
      refine mr_iload1 hG dX1_emptySplit_22 ?_
      refine mr_iconst hG 0 dX1_emptySplit_23 (by decide) ?_
      refine f1_st_2 hG dX1_emptySplit_24 j rfl hj (nar_b (by omega)) ?_
      refine mr_iload2 hG dX1_emptySplit_25 ?_
      show G 26 _ _ _ _
      exact mr_iret hG dX1_emptySplit_26 ⟨rfl, rfl, rfl⟩
    · omega
end Leaf1
end
section
set_option maxRecDepth 100000
set_option linter.unusedVariables false
/-! PLAIN: lists of pairs (key, value), how arrays hold them, their order, their folds -/
abbrev PL : Type := List (Nat × Int32)
def hold (f g : Nat → Int32) (o : Nat) (l : PL) : Prop := ∀ j k v, l[j]? = some (k, v) → f (o + j) = nI k ∧ g (o + j) = v
theorem hold_nil {f g : Nat → Int32} {o : Nat} : hold f g o [] := by
  intro j k v h
  simp at h
theorem hold_cons {f g : Nat → Int32} {o k : Nat} {v : Int32} {l : PL} : hold f g o ((k, v) :: l) ↔ (f o = nI k ∧ g o = v) ∧ hold f g (o + 1) l := by
  constructor
  · intro h
    refine ⟨h 0 k v rfl, fun j k' v' hj => ?_⟩
    have h2 := h (j + 1) k' v' (by rw [List.getElem?_cons_succ]; exact hj)
    have e : o + (j + 1) = o + 1 + j := by omega
    rw [e] at h2
    exact h2
  · rintro ⟨h1, h2⟩ j k' v' hj
    cases j with
    | zero =>
      rw [List.getElem?_cons_zero] at hj
      cases hj
      exact h1
    | succ j =>
      rw [List.getElem?_cons_succ] at hj
      have h3 := h2 j k' v' hj
      have e : o + (j + 1) = o + 1 + j := by omega
      rw [e]
      exact h3
theorem hold_app {f g : Nat → Int32} {o : Nat} {a b : PL} : hold f g o (a ++ b) ↔ hold f g o a ∧ hold f g (o + a.length) b := by
  induction a generalizing o with
  | nil => simp [hold_nil]
  | cons e a ih =>
    obtain ⟨k, v⟩ := e
    have e : o + 1 + a.length = o + (a.length + 1) := by omega
    rw [List.cons_append, hold_cons, hold_cons, ih, List.length_cons, e, and_assoc (b := hold f g (o + 1) a)]
theorem hold_fr {f g f' g' : Nat → Int32} {o : Nat} {l : PL} (h : hold f g o l) (hf : ∀ j, o ≤ j → j < o + l.length → f' j = f j ∧ g' j = g j) : hold f' g' o l := by
  intro j k v hj
  have hlt := (List.getElem?_eq_some_iff.mp hj).1
  obtain ⟨e1, e2⟩ := hf (o + j) (by omega) (by omega)
  rw [e1, e2]
  exact h j k v hj
/-- the fields, the arrays stay but for those of a list -/
def eqF (S : List Nat) (fi fi' : Nat → Int32) : Prop := ∀ k, k ∉ S → fi' k = fi k
def eqA (S : List Nat) (ar ar' : Nat → Nat → Int32) : Prop := ∀ k, k ∉ S → ar' k = ar k
theorem eqF.rf {S : List Nat} {fi : Nat → Int32} : eqF S fi fi := fun _ _ => rfl
theorem eqA.rf {S : List Nat} {ar : Nat → Nat → Int32} : eqA S ar ar := fun _ _ => rfl
theorem eqF.tr {S : List Nat} {a b c : Nat → Int32} (h1 : eqF S a b) (h2 : eqF S b c) : eqF S a c := fun k hk => (h2 k hk).trans (h1 k hk)
theorem eqA.tr {S : List Nat} {a b c : Nat → Nat → Int32} (h1 : eqA S a b) (h2 : eqA S b c) : eqA S a c := fun k hk => (h2 k hk).trans (h1 k hk)
theorem eqF.wk {S S' : List Nat} {a b : Nat → Int32} (h1 : eqF S a b) (h : S.all (fun x => S'.contains x) = true) : eqF S' a b := by
  intro k hk
  refine h1 k (fun hx => hk ?_)
  have h2 := List.all_eq_true.mp h k hx
  simpa using h2
theorem eqA.wk {S S' : List Nat} {a b : Nat → Nat → Int32} (h1 : eqA S a b) (h : S.all (fun x => S'.contains x) = true) : eqA S' a b := by
  intro k hk
  refine h1 k (fun hx => hk ?_)
  have h2 := List.all_eq_true.mp h k hx
  simpa using h2
theorem eqF.up {S : List Nat} {a b : Nat → Int32} {k : Nat} {x : Int32} (h1 : eqF S a b) (hk : k ∈ S) : eqF S a (upd b k x) := by
  intro j hj
  have hne : j ≠ k := fun e => hj (by rw [e]; exact hk)
  rw [← h1 j hj]
  simp [upd, hne]
theorem eqA.up {S : List Nat} {a b : Nat → Nat → Int32} {k i : Nat} {x : Int32} (h1 : eqA S a b) (hk : k ∈ S) : eqA S a (ua b k i x) := by
  intro j hj
  have hne : j ≠ k := fun e => hj (by rw [e]; exact hk)
  rw [← h1 j hj]
  simp [ua, hne]
theorem ua_s {ar : Nat → Nat → Int32} {k i : Nat} {x : Int32} : ua ar k i x k i = x := by simp [ua, upd]
theorem ua_n {ar : Nat → Nat → Int32} {k i j : Nat} {x : Int32} (h : j ≠ i) : ua ar k i x k j = ar k j := by simp [ua, upd, h]
theorem ua_o {ar : Nat → Nat → Int32} {k i a : Nat} {x : Int32} (h : a ≠ k) : ua ar k i x a = ar a := by simp [ua, h]
theorem up_s {f : Nat → Int32} {k : Nat} {x : Int32} : upd f k x k = x := by simp [upd]
theorem up_n {f : Nat → Int32} {k j : Nat} {x : Int32} (h : j ≠ k) : upd f k x j = f j := by simp [upd, h]
/-! order -/
def srt (P : Nat) (l : PL) : Prop := l.Pairwise (fun x y => rk P x.1 ≤ rk P y.1)
theorem rk_inj {P a b : Nat} (ha : a < 16) (hb : b < 16) (h : rk P a = rk P b) : a = b := by
  unfold rk at h
  omega
theorem srt_last {P : Nat} {A : PL} {k : Nat} (h : srt P A) (hl : ∀ x, A.getLast? = some x → rk P x.1 ≤ rk P k) : ∀ x ∈ A, rk P x.1 ≤ rk P k := by
  intro x hx
  rcases List.eq_nil_or_concat A with e | ⟨A', y, e⟩
  · subst e; simp at hx
  · subst e
    have hy : rk P y.1 ≤ rk P k := hl y (by simp)
    simp only [List.concat_eq_append, List.mem_append, List.mem_singleton] at hx
    rcases hx with hx | hx
    · unfold srt at h
      rw [List.concat_eq_append, List.pairwise_append] at h
      exact Nat.le_trans (h.2.2 x hx y (by simp)) hy
    · rw [hx]; exact hy
theorem srt_ins {P k : Nat} {v : Int32} {A B : PL} (h : srt P (A ++ B)) (hl : ∀ x, A.getLast? = some x → rk P x.1 ≤ rk P k) (hB : ∀ x ∈ B, rk P k < rk P x.1) : srt P (A ++ (k, v) :: B) := by
  unfold srt at h ⊢
  rw [List.pairwise_append] at h ⊢
  obtain ⟨h1, h2, h3⟩ := h
  have hA := srt_last (P := P) (k := k) h1 hl
  refine ⟨h1, List.pairwise_cons.mpr ⟨fun x hx => Nat.le_of_lt (hB x hx), h2⟩, fun a ha b hb => ?_⟩
  rcases List.mem_cons.mp hb with e | e
  · rw [e]; exact hA a ha
  · exact h3 a ha b e
/-- two lists have, key by key, the same pairs in the same order -/
def sameK (a b : PL) : Prop := ∀ k, a.filter (fun e => e.1 == k) = b.filter (fun e => e.1 == k)
theorem sameK_ins {k : Nat} {v : Int32} {A B C : PL} (hB : ∀ x ∈ B, x.1 ≠ k) : sameK (A ++ (k, v) :: B ++ C) (A ++ B ++ (k, v) :: C) := by
  intro q
  simp only [List.filter_append, List.filter_cons, List.append_assoc, List.cons_append]
  congr 1
  by_cases hq : k = q
  · subst hq
    have e : B.filter (fun e => e.1 == k) = [] := by
      rw [List.filter_eq_nil_iff]
      intro x hx
      simp [hB x hx]
    simp [e]
  · simp [hq]
theorem sameK.tr {a b c : PL} (h1 : sameK a b) (h2 : sameK b c) : sameK a c := fun k => (h1 k).trans (h2 k)
/-! folds -/
def stp (r : Nat) (o : Option Int32) (w : Int32) : Int32 := if r = 4 then nI 31 * o.getD (nI 7) + w else match o with
  | none => w
  | some a => comb r a w
def fv (r k : Nat) (o : Option Int32) (l : PL) : Option Int32 := l.foldl (fun o e => if e.1 = k then some (stp r o e.2) else o) o
theorem fv_nil {r k : Nat} {o : Option Int32} : fv r k o [] = o := rfl
theorem fv_cons {r k : Nat} {o : Option Int32} {e : Nat × Int32} {l : PL} : fv r k o (e :: l) = fv r k (if e.1 = k then some (stp r o e.2) else o) l := rfl
theorem fv_app {r k : Nat} {o : Option Int32} {a b : PL} : fv r k o (a ++ b) = fv r k (fv r k o a) b := by
  unfold fv
  rw [List.foldl_append]
theorem fv_filt {r k : Nat} {o : Option Int32} {l : PL} : fv r k o l = fv r k o (l.filter (fun e => e.1 == k)) := by
  induction l generalizing o with
  | nil => rfl
  | cons e l ih =>
    rw [List.filter_cons]
    by_cases h : e.1 = k
    · simp only [h, BEq.rfl, if_true]
      rw [fv_cons, fv_cons, ih]
    · simp only [h, beq_iff_eq, if_false]
      rw [fv_cons, if_neg h, ih]
theorem sameK.fv {r k : Nat} {o : Option Int32} {a b : PL} (h : sameK a b) : fv r k o a = fv r k o b := by
  rw [fv_filt, h k, ← fv_filt]
theorem sameK.len {a b : PL} (h : sameK a b) (x : Nat × Int32) : x ∈ a ↔ x ∈ b := by
  have h1 := h x.1
  constructor
  · intro hx
    have h2 : x ∈ a.filter (fun e => e.1 == x.1) := List.mem_filter.mpr ⟨hx, by simp⟩
    rw [h1] at h2
    exact (List.mem_filter.mp h2).1
  · intro hx
    have h2 : x ∈ b.filter (fun e => e.1 == x.1) := List.mem_filter.mpr ⟨hx, by simp⟩
    rw [← h1] at h2
    exact (List.mem_filter.mp h2).1
theorem comb_assoc (r : Nat) (a b c : Int32) : comb r (comb r a b) c = comb r a (comb r b c) := by
  unfold comb
  by_cases h1 : r = 1
  · simp only [h1, if_true]
    by_cases p : a ≤ b <;> by_cases q : b ≤ c <;> by_cases w : a ≤ c <;> simp only [p, q, w, if_true, if_false] <;> rw [i_le] at p q w <;> first | rfl | (exfalso; omega) | (apply Int32.toInt_inj.mp; omega)
  · by_cases h2 : r = 2
    · subst h2
      simp only [h1, if_true, if_false]
      by_cases p : b ≤ a <;> by_cases q : c ≤ b <;> by_cases w : c ≤ a <;> simp only [p, q, w, if_true, if_false] <;> rw [i_le] at p q w <;> first | rfl | (exfalso; omega) | (apply Int32.toInt_inj.mp; omega)
    · simp only [h1, h2, if_false]
      exact Int32.add_assoc a b c
theorem stp_comb {r : Nat} (hr : r ≠ 4) (o : Option Int32) (a b : Int32) : stp r (some (stp r o a)) b = stp r o (comb r a b) := by
  unfold stp
  simp only [hr, if_false]
  cases o with
  | none => rfl
  | some x => exact comb_assoc r x a b
theorem fv_comb {r k q : Nat} (hr : r ≠ 4) {o : Option Int32} {a b : Int32} {A C : PL} : fv r k o (A ++ [(q, comb r a b)] ++ C) = fv r k o (A ++ [(q, a)] ++ (q, b) :: C) := by
  have e1 : A ++ [(q, comb r a b)] ++ C = A ++ (q, comb r a b) :: C := by simp
  have e2 : A ++ [(q, a)] ++ (q, b) :: C = A ++ (q, a) :: (q, b) :: C := by simp
  rw [e1, e2, fv_app, fv_app, fv_cons, fv_cons, fv_cons]
  by_cases h : q = k
  · simp only [h, if_true]
    rw [stp_comb hr]
  · simp only [h, if_false]
theorem fv_some {r k : Nat} {a : Int32} {l : PL} : (fv r k (some a) l).isSome = true := by
  induction l generalizing a with
  | nil => rfl
  | cons e l ih =>
    rw [fv_cons]
    split
    · exact ih
    · exact ih
theorem fv_has {r k : Nat} {l : PL} : (fv r k none l).isSome = true ↔ ∃ e ∈ l, e.1 = k := by
  induction l with
  | nil => simp [fv]
  | cons e l ih =>
    rw [fv_cons]
    by_cases h : e.1 = k
    · rw [if_pos h]
      exact ⟨fun _ => ⟨e, List.mem_cons_self, h⟩, fun _ => fv_some⟩
    · rw [if_neg h, ih]
      constructor
      · rintro ⟨x, hx, e2⟩; exact ⟨x, List.mem_cons_of_mem _ hx, e2⟩
      · rintro ⟨x, hx, e2⟩
        rcases List.mem_cons.mp hx with e3 | e3
        · exact absurd (e3 ▸ e2) h
        · exact ⟨x, e3, e2⟩
/-! places: how many pairs have a rank below t -/
def pos (P : Nat) (l : PL) (t : Nat) : Nat := l.countP (fun e => decide (rk P e.1 < t))
theorem pos_split {P t : Nat} {D C : PL} (hD : ∀ x ∈ D, rk P x.1 < t) (hC : ∀ x ∈ C, t ≤ rk P x.1) : pos P (D ++ C) t = D.length := by
  unfold pos
  rw [List.countP_append, List.countP_eq_length.mpr (fun x hx => by simpa using hD x hx), List.countP_eq_zero.mpr (fun x hx => by have := hC x hx; simp; omega)]
  rfl
theorem rk_part {P k p : Nat} (hk : k < 16) : rk P k < 16 * p ↔ k % P < p := by
  unfold rk
  omega
theorem rk_64 {P k : Nat} (hP : 1 ≤ P) (hP4 : P ≤ 4) (hk : k < 16) : rk P k < 64 := by
  have h : k % P < P := Nat.mod_lt _ hP
  unfold rk
  omega
end
section
set_option maxRecDepth 100000
set_option linter.unusedVariables false
/-! sortBuffer, combineBuffer -/
theorem co_comesAfter {a b : Value} : mr_callok K1 yX1_comesAfter [a, b] := ⟨rfl, by decide, by decide, by show _ = some 2; decide +kernel⟩
theorem wd_comesAfter : GoodIn lw_all (wsV K1.1 125 K1.1 yX1_comesAfter (ws_ yX1_comesAfter cX1_comesAfter 5 (some .boolean))) := lw_V q156 q158 qs5 q17 q159
theorem co_combined {a b : Value} : mr_callok K1 yX1_combined [a, b] := ⟨rfl, by decide, by decide, by show _ = some 2; decide +kernel⟩
theorem wd_combined : GoodIn lw_all (wsV K1.1 128 K1.1 yX1_combined (ws_ yX1_combined cX1_combined 3 (some .int))) := lw_V q164 q166 qs7 q17 q167
section Srt
variable {fi : Nat → Int32} {Post : mr_PT} {h : Nat} {ad : Nat → Nat} {G : mr_GT}
theorem lp_sort_in (hG : mr_Cl K1 cX1_sortBuffer 5 none 1 24 Post h ad G) {P : Nat} (hP : fi 0 = nI P) (hP1 : 1 ≤ P) (hP4 : P ≤ 4) {k : Nat} {v : Int32} (hk16 : k < 16) {C : PL} {i : Nat} :
    ∀ (n : Nat) (A B : PL) (ar : Nat → Nat → Int32), A.length = n → A.length + B.length + 1 + C.length ≤ 8 → i = A.length + B.length → hold (ar 14) (ar 15) 0 A → hold (ar 14) (ar 15) (A.length + 1) B → hold (ar 14) (ar 15) (A.length + 1 + B.length) C → (∀ x ∈ A ++ B, x.1 < 16) → (∀ x ∈ B, rk P k < rk P x.1) →
    (∀ (A' B' : PL) (ar' : Nat → Nat → Int32) (a4 : Value), A' ++ B' = A ++ B → (∀ x, A'.getLast? = some x → rk P x.1 ≤ rk P k) → (∀ x ∈ B', rk P k < rk P x.1) → hold (ar' 14) (ar' 15) 0 (A' ++ (k, v) :: B' ++ C) → eqA [14, 15] ar ar' → G 103 [.ref h, .int (nI i), .int (nI k), .int v, a4] [] fi ar') →
    G 27 [.ref h, .int (nI i), .int (nI k), .int v, .int (nI A.length)] [] fi ar := by
  intro n
  induction n with
  | zero =>
    intro A B ar hn h8 hi hA hB hC h16 hBk hk
    have e : A = [] := List.length_eq_zero_iff.mp hn
    subst e
    refine mr_iload4 hG dX1_sortBuffer_27 ?_
    show G 29 _ _ _ _
    refine mr_if_le hG 87 dX1_sortBuffer_29 (by decide) (fun c => ?_) (fun c => ?_)
    · refine mr_aload0 hG dX1_sortBuffer_87 ?_
      refine f1_get_14 hG dX1_sortBuffer_88 ?_
      refine mr_iload4 hG dX1_sortBuffer_91 ?_
      refine mr_iload2 hG dX1_sortBuffer_93 ?_
      refine f1_st_14 hG dX1_sortBuffer_94 0 rfl (by omega) (nar_b (by omega)) ?_
      refine mr_aload0 hG dX1_sortBuffer_95 ?_
      refine f1_get_15 hG dX1_sortBuffer_96 ?_
      refine mr_iload4 hG dX1_sortBuffer_99 ?_
      refine mr_iload3 hG dX1_sortBuffer_101 ?_
      refine f1_st_15 hG dX1_sortBuffer_102 0 rfl (by omega) rfl ?_
      show G 103 _ _ _ _
      simp only [List.length_nil, Nat.zero_add] at hB hC
      refine hk [] B _ _ rfl (fun x hx => by simp at hx) hBk ?_ (eqA.up (eqA.up eqA.rf (by decide)) (by decide))
      rw [List.nil_append, List.cons_append, hold_cons, hold_app]
      refine ⟨⟨?_, ?_⟩, ?_, ?_⟩
      · rw [ua_o (by decide), ua_s]
      · rw [ua_s]
      · refine hold_fr hB (fun j h1 h2 => ⟨?_, ?_⟩)
        · rw [ua_o (by decide), ua_n (by omega)]
        · rw [ua_n (by omega), ua_o (by decide)]
      · refine hold_fr hC (fun j h1 h2 => ⟨?_, ?_⟩)
        · rw [ua_o (by decide), ua_n (by omega)]
        · rw [ua_n (by omega), ua_o (by decide)]
    · exact absurd (show nI 0 ≤ 0 by decide) c
  | succ n ih =>
    intro A B ar hn h8 hi hA hB hC h16 hBk hk
    rcases List.eq_nil_or_concat A with e | ⟨A', x, e⟩
    · subst e; simp at hn
    · rw [List.concat_eq_append] at e
      subst e
      obtain ⟨xk, xv⟩ := x
      have hlen : (A' ++ [(xk, xv)]).length = A'.length + 1 := by simp
      rw [hlen] at hn h8 hi hB hC ⊢
      have hA2 := hold_app.mp hA
      obtain ⟨hx1, hx2⟩ := (hold_cons.mp hA2.2).1
      rw [Nat.zero_add] at hx1 hx2
      have hxk : xk < 16 := h16 (xk, xv) (by simp)
      refine mr_iload4 hG dX1_sortBuffer_27 ?_
      show G 29 _ _ _ _
      refine mr_if_le hG 87 dX1_sortBuffer_29 (by decide) (fun c => absurd c (nI_nle (by omega) (by omega))) (fun c => ?_)
      refine mr_aload0 hG dX1_sortBuffer_32 ?_
      refine mr_aload0 hG dX1_sortBuffer_33 ?_
      refine f1_get_14 hG dX1_sortBuffer_34 ?_
      refine mr_iload4 hG dX1_sortBuffer_37 ?_
      refine mr_iconst hG 1 dX1_sortBuffer_39 (by decide) ?_
      refine mr_isubN hG dX1_sortBuffer_40 (by omega) ?_
      refine f1_ld_14 hG dX1_sortBuffer_41 A'.length (by simp) (by omega) ?_
      refine mr_top (hx1) ?_
      refine mr_iload2 hG dX1_sortBuffer_42 ?_
      show G 43 _ _ _ _
      refine mr_calli hG (ct_comesAfter hP hP1 hP4 hxk hk16) wd_comesAfter co_comesAfter (by decide) rfl (by decide) dX1_sortBuffer_43 ?_
      rintro r fi' ar' ⟨rfl, rfl, rfl⟩
      by_cases hr : rk P k < rk P xk
      · rw [if_pos hr]
        refine mr_if_eq hG 87 dX1_sortBuffer_46 (by decide) (fun c2 => ?_) (fun c2 => ?_)
        · exact absurd c2 (by decide)
        · refine mr_aload0 hG dX1_sortBuffer_49 ?_
          refine f1_get_14 hG dX1_sortBuffer_50 ?_
          refine mr_iload4 hG dX1_sortBuffer_53 ?_
          refine mr_aload0 hG dX1_sortBuffer_55 ?_
          refine f1_get_14 hG dX1_sortBuffer_56 ?_
          refine mr_iload4 hG dX1_sortBuffer_59 ?_
          refine mr_iconst hG 1 dX1_sortBuffer_61 (by decide) ?_
          refine mr_isubN hG dX1_sortBuffer_62 (by omega) ?_
          refine f1_ld_14 hG dX1_sortBuffer_63 A'.length (by simp) (by omega) ?_
          refine mr_top (hx1) ?_
          refine f1_st_14 hG dX1_sortBuffer_64 (A'.length + 1) rfl (by omega) (nar_b (by omega)) ?_
          show G 65 _ _ _ _
          refine mr_aload0 hG dX1_sortBuffer_65 ?_
          refine f1_get_15 hG dX1_sortBuffer_66 ?_
          refine mr_iload4 hG dX1_sortBuffer_69 ?_
          refine mr_aload0 hG dX1_sortBuffer_71 ?_
          refine f1_get_15 hG dX1_sortBuffer_72 ?_
          refine mr_iload4 hG dX1_sortBuffer_75 ?_
          refine mr_iconst hG 1 dX1_sortBuffer_77 (by decide) ?_
          refine mr_isubN hG dX1_sortBuffer_78 (by omega) ?_
          refine f1_ld_15 hG dX1_sortBuffer_79 A'.length (by simp) (by omega) ?_
          refine mr_top ((by rw [ua_o (by decide)]; exact hx2 : _ = xv)) ?_
          refine f1_st_15 hG dX1_sortBuffer_80 (A'.length + 1) rfl (by omega) rfl ?_
          refine mr_iinc4 hG dX1_sortBuffer_81 (v := nI A'.length) (pk_m1 _) ?_
          refine mr_goto hG 27 dX1_sortBuffer_84 (by decide) ?_
          show G 27 _ _ _ _
          have h16' : ∀ x ∈ A' ++ (xk, xv) :: B, x.1 < 16 := fun x hx => h16 x (by simpa using hx)
          refine ih A' ((xk, xv) :: B) _ (by omega) (by simp only [List.length_cons]; omega) (by simp only [List.length_cons]; omega) ?_ ?_ ?_ h16' ?_ ?_
          · refine hold_fr hA2.1 (fun j h1 h2 => ⟨?_, ?_⟩)
            · rw [ua_o (by decide), ua_n (by omega)]
            · rw [ua_n (by omega), ua_o (by decide)]
          · rw [hold_cons]
            refine ⟨⟨by rw [ua_o (by decide), ua_s], by rw [ua_s]⟩, ?_⟩
            refine hold_fr hB (fun j h1 h2 => ⟨?_, ?_⟩)
            · rw [ua_o (by decide), ua_n (by omega)]
            · rw [ua_n (by omega), ua_o (by decide)]
          · have e : A'.length + 1 + ((xk, xv) :: B).length = A'.length + 1 + 1 + B.length := by simp only [List.length_cons]; omega
            rw [e]
            refine hold_fr hC (fun j h1 h2 => ⟨?_, ?_⟩)
            · rw [ua_o (by decide), ua_n (by omega)]
            · rw [ua_n (by omega), ua_o (by decide)]
          · intro x hx
            rcases List.mem_cons.mp hx with e | e
            · rw [e]; exact hr
            · exact hBk x e
          · intro A2 B2 ar2 a4 e1 e2 e3 e4 e5
            exact hk A2 B2 ar2 a4 (by rw [e1]; simp) e2 e3 e4 (eqA.tr (eqA.up (eqA.up eqA.rf (by decide)) (by decide)) e5)
      · rw [if_neg hr]
        refine mr_if_eq hG 87 dX1_sortBuffer_46 (by decide) (fun c2 => ?_) (fun c2 => ?_)
        · refine mr_aload0 hG dX1_sortBuffer_87 ?_
          refine f1_get_14 hG dX1_sortBuffer_88 ?_
          refine mr_iload4 hG dX1_sortBuffer_91 ?_
          refine mr_iload2 hG dX1_sortBuffer_93 ?_
          refine f1_st_14 hG dX1_sortBuffer_94 (A'.length + 1) rfl (by omega) (nar_b (by omega)) ?_
          refine mr_aload0 hG dX1_sortBuffer_95 ?_
          refine f1_get_15 hG dX1_sortBuffer_96 ?_
          refine mr_iload4 hG dX1_sortBuffer_99 ?_
          refine mr_iload3 hG dX1_sortBuffer_101 ?_
          refine f1_st_15 hG dX1_sortBuffer_102 (A'.length + 1) rfl (by omega) rfl ?_
          show G 103 _ _ _ _
          refine hk (A' ++ [(xk, xv)]) B _ _ rfl (fun x hx => by simp at hx; subst hx; exact Nat.le_of_not_lt hr) hBk ?_ (eqA.up (eqA.up eqA.rf (by decide)) (by decide))
          rw [List.append_assoc (A' ++ [(xk, xv)]), List.cons_append, hold_app (a := A' ++ [(xk, xv)]), hold_cons, hold_app (a := B), hlen, Nat.zero_add]
          refine ⟨?_, ⟨?_, ?_⟩, ?_, ?_⟩
          · refine hold_fr hA (fun j h1 h2 => ?_)
            rw [hlen] at h2
            exact ⟨by rw [ua_o (by decide), ua_n (by omega)], by rw [ua_n (by omega), ua_o (by decide)]⟩
          · rw [ua_o (by decide), ua_s]
          · rw [ua_s]
          · refine hold_fr hB (fun j h1 h2 => ⟨?_, ?_⟩)
            · rw [ua_o (by decide), ua_n (by omega)]
            · rw [ua_n (by omega), ua_o (by decide)]
          · refine hold_fr hC (fun j h1 h2 => ⟨?_, ?_⟩)
            · rw [ua_o (by decide), ua_n (by omega)]
            · rw [ua_n (by omega), ua_o (by decide)]
        · exact absurd nI_0 c2
theorem lp_sort_out (hG : mr_Cl K1 cX1_sortBuffer 5 none 1 24 Post h ad G) {P : Nat} (hP : fi 0 = nI P) (hP1 : 1 ≤ P) (hP4 : P ≤ 4) :
    ∀ (C S : PL) (ar : Nat → Nat → Int32) (a2 a3 a4 : Value), fi 13 = nI (S.length + C.length) → S.length + C.length ≤ 8 → hold (ar 14) (ar 15) 0 (S ++ C) → (∀ x ∈ S ++ C, x.1 < 16) → srt P S →
    (∀ (S' : PL) (ar' : Nat → Nat → Int32), S'.length = S.length + C.length → srt P S' → sameK S' (S ++ C) → hold (ar' 14) (ar' 15) 0 S' → eqA [14, 15] ar ar' → Post 0 fi ar') →
    G 2 [.ref h, .int (nI S.length), a2, a3, a4] [] fi ar := by
  intro C
  induction C with
  | nil =>
    intro S ar a2 a3 a4 hb h8 hH h16 hs hk
    refine mr_iload1 hG dX1_sortBuffer_2 ?_
    refine mr_aload0 hG dX1_sortBuffer_3 ?_
    refine f1_get_13 hG dX1_sortBuffer_4 ?_
    refine mr_top (hb) ?_
    show G 7 _ _ _ _
    refine mr_icmp_geN hG 109 dX1_sortBuffer_7 (by decide) (by omega) (by simp only [List.length_nil]; omega) (fun c => ?_) (fun c => ?_)
    · refine mr_vret hG dX1_sortBuffer_109 (hk S ar rfl hs (fun k => by simp) ?_ eqA.rf)
      rw [List.append_nil] at hH
      exact hH
    · simp only [List.length_nil] at c
      omega
  | cons e C ih =>
    intro S ar a2 a3 a4 hb h8 hH h16 hs hk
    obtain ⟨k, v⟩ := e
    simp only [List.length_cons] at hb h8 hk
    have hH2 := hold_app.mp hH
    obtain ⟨⟨hx1, hx2⟩, hC⟩ := hold_cons.mp hH2.2
    rw [Nat.zero_add] at hx1 hx2 hC
    have hk16 : k < 16 := h16 (k, v) (by simp)
    refine mr_iload1 hG dX1_sortBuffer_2 ?_
    refine mr_aload0 hG dX1_sortBuffer_3 ?_
    refine f1_get_13 hG dX1_sortBuffer_4 ?_
    refine mr_top (hb) ?_
    show G 7 _ _ _ _
    refine mr_icmp_geN hG 109 dX1_sortBuffer_7 (by decide) (by omega) (by omega) (fun c => by omega) (fun c => ?_)
    refine mr_aload0 hG dX1_sortBuffer_10 ?_
    refine f1_get_14 hG dX1_sortBuffer_11 ?_
    refine mr_iload1 hG dX1_sortBuffer_14 ?_
    refine f1_ld_14 hG dX1_sortBuffer_15 S.length rfl (by omega) ?_
    refine mr_top (hx1) ?_
    refine mr_istore2 hG dX1_sortBuffer_16 ?_
    refine mr_aload0 hG dX1_sortBuffer_17 ?_
    refine f1_get_15 hG dX1_sortBuffer_18 ?_
    refine mr_iload1 hG dX1_sortBuffer_21 ?_
    refine f1_ld_15 hG dX1_sortBuffer_22 S.length rfl (by omega) ?_
    refine mr_top (hx2) ?_
    refine mr_istore3 hG dX1_sortBuffer_23 ?_
    refine mr_iload1 hG dX1_sortBuffer_24 ?_
    refine mr_istore4 hG dX1_sortBuffer_25 ?_
    show G 27 _ _ _ _
    refine lp_sort_in hG hP hP1 hP4 hk16 (C := C) S.length S [] ar rfl (by simp only [List.length_nil]; omega) rfl hH2.1 hold_nil (by simpa using hC) (fun x hx => h16 x (by simp at hx ⊢; exact Or.inl hx)) (fun x hx => by simp at hx) ?_
    intro A' B' ar' a4' e1 e2 e3 e4 e5
    rw [List.append_nil] at e1
    refine mr_iincS1 hG dX1_sortBuffer_103 ?_
    refine mr_goto hG 2 dX1_sortBuffer_106 (by decide) ?_
    show G 2 _ _ _ _
    have hlen : (A' ++ (k, v) :: B').length = S.length + 1 := by rw [← e1]; simp; omega
    have hmem : ∀ x, x ∈ A' ++ (k, v) :: B' ++ C ↔ x ∈ S ++ (k, v) :: C := by
      intro x
      rw [← e1]
      simp only [List.mem_append, List.mem_cons]
      grind
    have hne : ∀ x ∈ B', x.1 ≠ k := fun x hx e => by
      have := e3 x hx
      rw [e] at this
      omega
    have hs2 : srt P (A' ++ (k, v) :: B') := srt_ins (by rw [e1]; exact hs) e2 e3
    have key := ih (A' ++ (k, v) :: B') ar' (.int (nI k)) (.int v) a4' (by rw [hlen, hb]; congr 1; omega) (by rw [hlen]; omega) e4 (fun x hx => h16 x ((hmem x).mp hx)) hs2 ?_
    · rw [hlen] at key
      exact key
    · intro S' ar2 f1 f2 f3 f4 f5
      refine hk S' ar2 (by rw [f1, hlen]; omega) f2 (f3.tr ?_) f4 (e5.tr f5)
      rw [← e1]
      exact sameK_ins hne
theorem ct_sortBuffer {ar : Nat → Nat → Int32} {P : Nat} (hP : fi 0 = nI P) (hP1 : 1 ≤ P) (hP4 : P ≤ 4) {l : PL} (hb : fi 13 = nI l.length) (h0 : l ≠ []) (h8 : l.length ≤ 8) (hH : hold (ar 14) (ar 15) 0 l) (h16 : ∀ x ∈ l, x.1 < 16) : mr_Con K1 yX1_sortBuffer cX1_sortBuffer 5 none 1 24 [] fi ar (fun _ fi' ar' => fi' = fi ∧ eqA [14, 15] ar ar' ∧ ∃ l' : PL, l'.length = l.length ∧ srt P l' ∧ sameK l' l ∧ hold (ar' 14) (ar' 15) 0 l') := by
  refine mr_con ok1 (by decide) rfl 4 rfl rfl ?_
  intro h ad G hG
  show G 0 [.ref h, .null, .null, .null, .null] [] fi ar
  refine mr_iconst hG 1 dX1_sortBuffer_0 (by decide) ?_
  refine mr_istore1 hG dX1_sortBuffer_1 ?_
  show G 2 _ _ _ _
  cases l with
  | nil => exact absurd rfl h0
  | cons e C =>
    refine lp_sort_out hG hP hP1 hP4 C [e] ar _ _ _ (by rw [hb]; simp [Nat.add_comm]) (by simpa [Nat.add_comm] using h8) hH h16 (by simp [srt]) ?_
    intro S' ar' e1 e2 e3 e4 e5
    exact ⟨rfl, e5, S', by rw [e1]; simp [Nat.add_comm], e2, e3, e4⟩
end Srt
end
section
set_option maxRecDepth 100000
set_option linter.unusedVariables false
/-! combineBuffer -/
theorem srt_map {P : Nat} {l : PL} : srt P l ↔ (l.map (fun e => e.1)).Pairwise (fun a b => rk P a ≤ rk P b) := by
  unfold srt
  rw [List.pairwise_map]
theorem srt_sub {P : Nat} {l l' : PL} (h : srt P l) (hs : (l'.map (fun e => e.1)).Sublist (l.map (fun e => e.1))) : srt P l' := by
  rw [srt_map] at h ⊢
  exact h.sublist hs
section Cmb
variable {fi : Nat → Int32} {Post : mr_PT} {h : Nat} {ad : Nat → Nat} {G : mr_GT}
theorem lp_comb (hG : mr_Cl K1 cX1_combineBuffer 3 none 1 22 Post h ad G) {P r : Nat} (hr : fi 12 = nI r) (hr4 : r < 4) :
    ∀ (C Q0 : PL) (kk i : Nat) (w : Int32) (ar : Nat → Nat → Int32), fi 13 = nI (i + C.length) → i + C.length ≤ 8 → Q0.length + 1 ≤ i → hold (ar 14) (ar 15) 0 (Q0 ++ [(kk, w)]) → hold (ar 14) (ar 15) i C → (∀ x ∈ Q0 ++ [(kk, w)] ++ C, x.1 < 16) → srt P (Q0 ++ [(kk, w)] ++ C) →
    (∀ (Q' : PL) (ar' : Nat → Nat → Int32), Q' ≠ [] → Q'.length ≤ Q0.length + 1 + C.length → srt P Q' → (∀ x ∈ Q', x.1 < 16) → (∀ k o, fv r k o Q' = fv r k o (Q0 ++ [(kk, w)] ++ C)) → hold (ar' 14) (ar' 15) 0 Q' → eqA [14, 15] ar ar' → Post 0 (upd fi 13 (nI Q'.length)) ar') →
    G 4 [.ref h, .int (nI Q0.length), .int (nI i)] [] fi ar := by
  intro C
  induction C with
  | nil =>
    intro Q0 kk i w ar hb h8 hi hQ hC h16 hs hk
    simp only [List.length_nil, Nat.add_zero] at hb h8 hk
    refine mr_iload2 hG dX1_combineBuffer_4 ?_
    refine mr_aload0 hG dX1_combineBuffer_5 ?_
    refine f1_get_13 hG dX1_combineBuffer_6 ?_
    refine mr_top (hb) ?_
    show G 9 _ _ _ _
    refine mr_icmp_geN hG 85 dX1_combineBuffer_9 (by decide) (by omega) (by omega) (fun c => ?_) (fun c => by omega)
    refine mr_aload0 hG dX1_combineBuffer_85 ?_
    refine mr_iload1 hG dX1_combineBuffer_86 ?_
    refine mr_iconst hG 1 dX1_combineBuffer_87 (by decide) ?_
    refine mr_iaddN hG dX1_combineBuffer_88 ?_
    refine f1_put_13 hG dX1_combineBuffer_89 ?_
    show G 92 _ _ _ _
    rw [List.append_nil] at h16 hs
    have key := hk (Q0 ++ [(kk, w)]) ar (by simp) (by simp) hs h16 (fun k o => by rw [List.append_nil]) hQ eqA.rf
    rw [List.length_append] at key
    exact mr_vret hG dX1_combineBuffer_92 key
  | cons e C ih =>
    intro Q0 kk i w ar hb h8 hi hQ hC h16 hs hk
    obtain ⟨k2, v2⟩ := e
    simp only [List.length_cons] at hb h8 hk
    have hQ2 := hold_app.mp hQ
    obtain ⟨⟨hx1, hx2⟩, -⟩ := hold_cons.mp hQ2.2
    rw [Nat.zero_add] at hx1 hx2
    obtain ⟨⟨hy1, hy2⟩, hC2⟩ := hold_cons.mp hC
    have hk16 : k2 < 16 := h16 (k2, v2) (by simp)
    have hkk16 : kk < 16 := h16 (kk, w) (by simp)
    refine mr_iload2 hG dX1_combineBuffer_4 ?_
    refine mr_aload0 hG dX1_combineBuffer_5 ?_
    refine f1_get_13 hG dX1_combineBuffer_6 ?_
    refine mr_top (hb) ?_
    show G 9 _ _ _ _
    refine mr_icmp_geN hG 85 dX1_combineBuffer_9 (by decide) (by omega) (by omega) (fun c => by omega) (fun c => ?_)
    refine mr_aload0 hG dX1_combineBuffer_12 ?_
    refine f1_get_14 hG dX1_combineBuffer_13 ?_
    refine mr_iload2 hG dX1_combineBuffer_16 ?_
    refine f1_ld_14 hG dX1_combineBuffer_17 i rfl (by omega) ?_
    refine mr_top (hy1) ?_
    refine mr_aload0 hG dX1_combineBuffer_18 ?_
    refine f1_get_14 hG dX1_combineBuffer_19 ?_
    refine mr_iload1 hG dX1_combineBuffer_22 ?_
    refine f1_ld_14 hG dX1_combineBuffer_23 Q0.length rfl (by omega) ?_
    refine mr_top (hx1) ?_
    show G 24 _ _ _ _
    refine mr_icmp_neN hG 52 dX1_combineBuffer_24 (by decide) (by omega) (by omega) (fun c2 => ?_) (fun c2 => ?_)
    · refine mr_iincS1 hG dX1_combineBuffer_52 ?_
      refine mr_aload0 hG dX1_combineBuffer_55 ?_
      refine f1_get_14 hG dX1_combineBuffer_56 ?_
      refine mr_iload1 hG dX1_combineBuffer_59 ?_
      refine mr_aload0 hG dX1_combineBuffer_60 ?_
      refine f1_get_14 hG dX1_combineBuffer_61 ?_
      refine mr_iload2 hG dX1_combineBuffer_64 ?_
      refine f1_ld_14 hG dX1_combineBuffer_65 i rfl (by omega) ?_
      refine mr_top (hy1) ?_
      refine f1_st_14 hG dX1_combineBuffer_66 (Q0.length + 1) rfl (by omega) (nar_b (by omega)) ?_
      show G 67 _ _ _ _
      refine mr_aload0 hG dX1_combineBuffer_67 ?_
      refine f1_get_15 hG dX1_combineBuffer_68 ?_
      refine mr_iload1 hG dX1_combineBuffer_71 ?_
      refine mr_aload0 hG dX1_combineBuffer_72 ?_
      refine f1_get_15 hG dX1_combineBuffer_73 ?_
      refine mr_iload2 hG dX1_combineBuffer_76 ?_
      refine f1_ld_15 hG dX1_combineBuffer_77 i rfl (by omega) ?_
      refine mr_top ((by rw [ua_o (by decide)]; exact hy2 : _ = v2)) ?_
      refine f1_st_15 hG dX1_combineBuffer_78 (Q0.length + 1) rfl (by omega) rfl ?_
      refine mr_iincS2 hG dX1_combineBuffer_79 ?_
      refine mr_goto hG 4 dX1_combineBuffer_82 (by decide) ?_
      show G 4 _ _ _ _
      have key := ih (Q0 ++ [(kk, w)]) k2 (i + 1) v2 (ua (ua ar 14 (Q0.length + 1) (nI k2)) 15 (Q0.length + 1) v2) (by rw [hb]; congr 1; omega) (by omega) (by simp; omega) ?_ ?_ ?_ ?_ ?_
      · rw [List.length_append] at key
        exact key
      · rw [hold_app, List.length_append]
        refine ⟨?_, hold_cons.mpr ⟨⟨?_, ?_⟩, hold_nil⟩⟩
        · refine hold_fr hQ (fun j h1 h2 => ?_)
          rw [List.length_append] at h2
          simp only [List.length_singleton] at h2
          exact ⟨by rw [ua_o (by decide), ua_n (by omega)], by rw [ua_n (by omega), ua_o (by decide)]⟩
        · rw [ua_o (by decide)]
          simp [ua, upd]
        · simp [ua, upd]
      · refine hold_fr hC2 (fun j h1 h2 => ?_)
        exact ⟨by rw [ua_o (by decide), ua_n (by omega)], by rw [ua_n (by omega), ua_o (by decide)]⟩
      · intro x hx
        exact h16 x (by simpa using hx)
      · have e : Q0 ++ [(kk, w)] ++ [(k2, v2)] ++ C = Q0 ++ [(kk, w)] ++ (k2, v2) :: C := by simp
        rw [e]
        exact hs
      · intro Q' ar' f0 f1 f2 f3 f4 f5 f6
        have e : Q0 ++ [(kk, w)] ++ [(k2, v2)] ++ C = Q0 ++ [(kk, w)] ++ (k2, v2) :: C := by simp
        rw [e] at f4
        rw [List.length_append] at f1
        simp only [List.length_singleton] at f1
        exact hk Q' ar' f0 (by omega) f2 f3 f4 f5 (eqA.tr (eqA.up (eqA.up eqA.rf (by decide)) (by decide)) f6)
    · subst c2
      refine mr_aload0 hG dX1_combineBuffer_27 ?_
      refine f1_get_15 hG dX1_combineBuffer_28 ?_
      refine mr_iload1 hG dX1_combineBuffer_31 ?_
      refine mr_aload0 hG dX1_combineBuffer_32 ?_
      refine mr_aload0 hG dX1_combineBuffer_33 ?_
      refine f1_get_15 hG dX1_combineBuffer_34 ?_
      refine mr_iload1 hG dX1_combineBuffer_37 ?_
      refine f1_ld_15 hG dX1_combineBuffer_38 Q0.length rfl (by omega) ?_
      refine mr_top (hx2) ?_
      refine mr_aload0 hG dX1_combineBuffer_39 ?_
      refine f1_get_15 hG dX1_combineBuffer_40 ?_
      refine mr_iload2 hG dX1_combineBuffer_43 ?_
      refine f1_ld_15 hG dX1_combineBuffer_44 i rfl (by omega) ?_
      refine mr_top (hy2) ?_
      show G 45 _ _ _ _
      refine mr_calli hG (ct_combined (a := w) (b := v2) hr (by omega)) wd_combined co_combined (by decide) rfl (Nat.le_of_ble_eq_true rfl) dX1_combineBuffer_45 ?_
      rintro v fi' ar2 ⟨rfl, rfl, rfl⟩
      refine f1_st_15 hG dX1_combineBuffer_48 Q0.length rfl (by omega) rfl ?_
      refine mr_goto hG 79 dX1_combineBuffer_49 (by decide) ?_
      refine mr_iincS2 hG dX1_combineBuffer_79 ?_
      refine mr_goto hG 4 dX1_combineBuffer_82 (by decide) ?_
      show G 4 _ _ _ _
      refine ih Q0 k2 (i + 1) (comb r w v2) _ (by rw [hb]; congr 1; omega) (by omega) (by omega) ?_ ?_ ?_ ?_ ?_
      · rw [hold_app]
        refine ⟨?_, hold_cons.mpr ⟨⟨?_, ?_⟩, hold_nil⟩⟩
        · refine hold_fr hQ2.1 (fun j h1 h2 => ?_)
          exact ⟨by rw [ua_o (by decide)], by rw [ua_n (by omega)]⟩
        · rw [ua_o (by decide), Nat.zero_add]
          exact hx1
        · rw [Nat.zero_add, ua_s]
      · refine hold_fr hC2 (fun j h1 h2 => ?_)
        exact ⟨by rw [ua_o (by decide)], by rw [ua_n (by omega)]⟩
      · intro x hx
        simp only [List.mem_append, List.mem_singleton] at hx
        rcases hx with (hx | hx) | hx
        · exact h16 x (by simp [hx])
        · rw [hx]; exact hk16
        · exact h16 x (by simp [hx])
      · refine srt_sub hs ?_
        simp only [List.map_append, List.map_cons, List.map_nil]
        exact List.Sublist.append (List.Sublist.refl _) (List.sublist_cons_self _ _)
      · intro Q' ar' f0 f1 f2 f3 f4 f5 f6
        refine hk Q' ar' f0 (by omega) f2 f3 (fun k o => ?_) f5 (eqA.tr (eqA.up eqA.rf (by decide)) f6)
        rw [f4, fv_comb (by omega)]
theorem ct_combineBuffer {ar : Nat → Nat → Int32} {P r : Nat} (hr : fi 12 = nI r) (hr4 : r < 4) {l : PL} (hb : fi 13 = nI l.length) (h0 : l ≠ []) (h8 : l.length ≤ 8) (hH : hold (ar 14) (ar 15) 0 l) (h16 : ∀ x ∈ l, x.1 < 16) (hs : srt P l) : mr_Con K1 yX1_combineBuffer cX1_combineBuffer 3 none 1 22 [] fi ar (fun _ fi' ar' => eqA [14, 15] ar ar' ∧ ∃ l' : PL, l' ≠ [] ∧ l'.length ≤ l.length ∧ srt P l' ∧ (∀ x ∈ l', x.1 < 16) ∧ (∀ k o, fv r k o l' = fv r k o l) ∧ hold (ar' 14) (ar' 15) 0 l' ∧ fi' = upd fi 13 (nI l'.length)) := by
  refine mr_con ok1 (by decide) rfl 2 rfl rfl ?_
  intro h ad G hG
  show G 0 [.ref h, .null, .null] [] fi ar
  refine mr_iconst hG 0 dX1_combineBuffer_0 (by decide) ?_
  refine mr_istore1 hG dX1_combineBuffer_1 ?_
  refine mr_iconst hG 1 dX1_combineBuffer_2 (by decide) ?_
  refine mr_istore2 hG dX1_combineBuffer_3 ?_
  show G 4 _ _ _ _
  cases l with
  | nil => exact absurd rfl h0
  | cons e C =>
    obtain ⟨k, v⟩ := e
    refine lp_comb (P := P) hG hr hr4 C [] k 1 v ar (by rw [hb]; simp [Nat.add_comm]) (by simpa [Nat.add_comm] using h8) (by simp) (hold_cons.mpr ⟨(hold_cons.mp hH).1, hold_nil⟩) (hold_cons.mp hH).2 h16 hs ?_
    intro Q' ar' f0 f1 f2 f3 f4 f5 f6
    exact ⟨f6, Q', f0, by simp at f1 ⊢; omega, f2, f3, f4, f5, rfl⟩
end Cmb
end
section
set_option maxRecDepth 100000
set_option linter.unusedVariables false
/-! spill: the spills so far are the lists sps, one behind the other -/
def Sp (P : Nat) (fi : Nat → Int32) (ar : Nat → Nat → Int32) (sps : List PL) : Prop := fi 17 = nI sps.length ∧ fi 18 = nI sps.flatten.length ∧ hold (ar 19) (ar 20) 0 sps.flatten ∧ (∀ l ∈ sps, srt P l ∧ ∀ e ∈ l, e.1 < 16) ∧ ∀ s l, sps[s]? = some l → ∀ p, p ≤ 4 → ar 21 (5 * s + p) = nI ((sps.take s).flatten.length + pos P l (16 * p))
def lowE (E : Nat) (ar ar' : Nat → Nat → Int32) : Prop := ∀ j, j < E → ar' 19 j = ar 19 j ∧ ar' 20 j = ar 20 j
theorem lowE.rf {E : Nat} {ar : Nat → Nat → Int32} : lowE E ar ar := fun _ _ => ⟨rfl, rfl⟩
theorem lowE.tr {E : Nat} {a b c : Nat → Nat → Int32} (h1 : lowE E a b) (h2 : lowE E b c) : lowE E a c := fun j hj => ⟨(h2 j hj).1.trans (h1 j hj).1, (h2 j hj).2.trans (h1 j hj).2⟩
theorem co_sortBuffer : mr_callok K1 yX1_sortBuffer [] := ⟨rfl, by decide, by decide, by decide +kernel⟩
theorem wd_sortBuffer : GoodIn lw_all (wsV K1.1 119 K1.1 yX1_sortBuffer (ws_ yX1_sortBuffer cX1_sortBuffer 5 none)) := lw_V q152 q154 qs4 q17 q155
theorem co_combineBuffer : mr_callok K1 yX1_combineBuffer [] := ⟨rfl, by decide, by decide, by decide +kernel⟩
theorem wd_combineBuffer : GoodIn lw_all (wsV K1.1 122 K1.1 yX1_combineBuffer (ws_ yX1_combineBuffer cX1_combineBuffer 3 none)) := lw_V q160 q162 qs6 q17 q163
theorem rk_next {P k p : Nat} (hk : k < 16) (h1 : 16 * p ≤ rk P k) (h2 : ¬ k % P = p) : 16 * (p + 1) ≤ rk P k := by
  unfold rk at *
  omega
theorem rk_this {P k p : Nat} (hk : k < 16) (h2 : k % P = p) : rk P k < 16 * (p + 1) := by
  unfold rk at *
  omega
theorem srt_ge {P t : Nat} {e : Nat × Int32} {C : PL} (hs : srt P (e :: C)) (he : t ≤ rk P e.1) : ∀ x ∈ e :: C, t ≤ rk P x.1 := by
  intro x hx
  rcases List.mem_cons.mp hx with h1 | h1
  · rw [h1]; exact he
  · exact Nat.le_trans he ((List.pairwise_cons.mp hs).1 x h1)
theorem srt_right {P : Nat} {D C : PL} (hs : srt P (D ++ C)) : srt P C := (List.pairwise_append.mp hs).2.1
section Spl
variable {Post : mr_PT} {h : Nat} {ad : Nat → Nat} {G : mr_GT}
theorem lp_spill_in (hG : mr_Cl K1 cX1_spill 3 none 2 48 Post h ad G) {P : Nat} (hP1 : 1 ≤ P) (hP4 : P ≤ 4) {E part : Nat} (hp : part ≤ 3) :
    ∀ (C D : PL) (fi : Nat → Int32) (ar : Nat → Nat → Int32), fi 0 = nI P → fi 13 = nI (D.length + C.length) → fi 18 = nI (E + D.length) → D.length + C.length ≤ 8 → E + D.length + C.length ≤ 64 → hold (ar 14) (ar 15) D.length C → hold (ar 19) (ar 20) E D → (∀ x ∈ C, x.1 < 16) → srt P (D ++ C) → (∀ x ∈ C, 16 * part ≤ rk P x.1) → (∀ x ∈ D, rk P x.1 < 16 * (part + 1)) →
    (∀ (D' C' : PL) (fi' : Nat → Int32) (ar' : Nat → Nat → Int32), D' ++ C' = D ++ C → (∀ x ∈ D', rk P x.1 < 16 * (part + 1)) → (∀ x ∈ C', 16 * (part + 1) ≤ rk P x.1) → fi' 18 = nI (E + D'.length) → eqF [18] fi fi' → hold (ar' 14) (ar' 15) D'.length C' → hold (ar' 19) (ar' 20) E D' → eqA [19, 20] ar ar' → lowE E ar ar' → G 112 [.ref h, .int (nI D'.length), .int (nI part)] [] fi' ar') →
    G 43 [.ref h, .int (nI D.length), .int (nI part)] [] fi ar := by
  intro C
  induction C with
  | nil =>
    intro D fi ar hP hb he h8 h64 hC hD h16 hs hrC hrD hk
    simp only [List.length_nil, Nat.add_zero] at hb h8 h64
    refine mr_iload1 hG dX1_spill_43 ?_
    refine mr_aload0 hG dX1_spill_44 ?_
    refine f1_get_13 hG dX1_spill_45 ?_
    refine mr_top (hb) ?_
    show G 48 _ _ _ _
    refine mr_icmp_geN hG 112 dX1_spill_48 (by decide) (by omega) (by omega) (fun c => ?_) (fun c => by omega)
    exact hk D [] fi ar rfl hrD (fun x hx => by simp at hx) he eqF.rf hC hD eqA.rf lowE.rf
  | cons e C ih =>
    intro D fi ar hP hb he h8 h64 hC hD h16 hs hrC hrD hk
    obtain ⟨k, v⟩ := e
    simp only [List.length_cons] at hb h8 h64
    obtain ⟨⟨hx1, hx2⟩, hC2⟩ := hold_cons.mp hC
    have hk16 : k < 16 := h16 (k, v) List.mem_cons_self
    have hm : k % P < 4 := Nat.lt_of_lt_of_le (Nat.mod_lt _ hP1) hP4
    refine mr_iload1 hG dX1_spill_43 ?_
    refine mr_aload0 hG dX1_spill_44 ?_
    refine f1_get_13 hG dX1_spill_45 ?_
    refine mr_top (hb) ?_
    show G 48 _ _ _ _
    refine mr_icmp_geN hG 112 dX1_spill_48 (by decide) (by omega) (by omega) (fun c => by omega) (fun c => ?_)
    refine mr_aload0 hG dX1_spill_51 ?_
    refine f1_get_14 hG dX1_spill_52 ?_
    refine mr_iload1 hG dX1_spill_55 ?_
    refine f1_ld_14 hG dX1_spill_56 D.length rfl (by omega) ?_
    refine mr_top (hx1) ?_
    refine mr_aload0 hG dX1_spill_57 ?_
    refine f1_get_0 hG dX1_spill_58 ?_
    refine mr_top (hP) ?_
    refine mr_iremN hG dX1_spill_61 (by omega) (by omega) (by omega) ?_
    refine mr_iload2 hG dX1_spill_62 ?_
    show G 63 _ _ _ _
    refine mr_icmp_neN hG 112 dX1_spill_63 (by decide) (by omega) (by omega) (fun c2 => ?_) (fun c2 => ?_)
    · exact hk D ((k, v) :: C) fi ar rfl hrD (srt_ge (srt_right hs) (rk_next hk16 (hrC (k, v) List.mem_cons_self) c2)) he eqF.rf hC hD eqA.rf lowE.rf
    · refine mr_aload0 hG dX1_spill_66 ?_
      refine f1_get_19 hG dX1_spill_67 ?_
      refine mr_aload0 hG dX1_spill_70 ?_
      refine f1_get_18 hG dX1_spill_71 ?_
      refine mr_top (he) ?_
      refine mr_aload0 hG dX1_spill_74 ?_
      refine f1_get_14 hG dX1_spill_75 ?_
      refine mr_iload1 hG dX1_spill_78 ?_
      refine f1_ld_14 hG dX1_spill_79 D.length rfl (by omega) ?_
      refine mr_top (hx1) ?_
      refine f1_st_19 hG dX1_spill_80 (E + D.length) rfl (by omega) (nar_b (by omega)) ?_
      show G 81 _ _ _ _
      refine mr_aload0 hG dX1_spill_81 ?_
      refine f1_get_20 hG dX1_spill_82 ?_
      refine mr_aload0 hG dX1_spill_85 ?_
      refine f1_get_18 hG dX1_spill_86 ?_
      refine mr_top (he) ?_
      refine mr_aload0 hG dX1_spill_89 ?_
      refine f1_get_15 hG dX1_spill_90 ?_
      refine mr_iload1 hG dX1_spill_93 ?_
      refine f1_ld_15 hG dX1_spill_94 D.length rfl (by omega) ?_
      refine mr_top ((by rw [ua_o (by decide)]; exact hx2 : _ = v)) ?_
      refine f1_st_20 hG dX1_spill_95 (E + D.length) rfl (by omega) rfl ?_
      refine mr_aload0 hG dX1_spill_96 ?_
      refine mr_dup hG dX1_spill_97 rfl ?_
      refine f1_get_18 hG dX1_spill_98 ?_
      refine mr_top (he) ?_
      refine mr_iconst hG 1 dX1_spill_101 (by decide) ?_
      refine mr_iaddN hG dX1_spill_102 ?_
      refine f1_put_18 hG dX1_spill_103 ?_
      refine mr_iincS1 hG dX1_spill_106 ?_
      refine mr_goto hG 43 dX1_spill_109 (by decide) ?_
      show G 43 _ _ _ _
      have hl1 : (D ++ [(k, v)]).length = D.length + 1 := by simp
      have hl2 : D ++ [(k, v)] ++ C = D ++ (k, v) :: C := by simp
      have key := ih (D ++ [(k, v)]) (upd fi 18 (nI (E + D.length + 1))) (ua (ua ar 19 (E + D.length) (nI k)) 20 (E + D.length) v) hP (by rw [up_n (by decide), hl1, hb]; congr 1; omega) (by rw [up_s, hl1]; rfl) (by rw [hl1]; omega) (by rw [hl1]; omega) ?_ ?_ (fun x hx => h16 x (List.mem_cons_of_mem _ hx)) (by rw [hl2]; exact hs) (fun x hx => hrC x (List.mem_cons_of_mem _ hx)) ?_ ?_
      · rw [hl1] at key
        exact key
      · rw [hl1]
        exact hold_fr hC2 (fun j h1 h2 => ⟨by rw [ua_o (by decide), ua_o (by decide)], by rw [ua_o (by decide), ua_o (by decide)]⟩)
      · rw [hold_app]
        refine ⟨hold_fr hD (fun j h1 h2 => ⟨by rw [ua_o (by decide), ua_n (by omega)], by rw [ua_n (by omega), ua_o (by decide)]⟩), hold_cons.mpr ⟨⟨by rw [ua_o (by decide), ua_s], by rw [ua_s]⟩, hold_nil⟩⟩
      · intro x hx
        rcases List.mem_append.mp hx with h1 | h1
        · exact hrD x h1
        · rw [List.mem_singleton.mp h1]
          exact rk_this hk16 c2
      · intro D' C' fi' ar' e1 e2 e3 e4 e5 e6 e7 e8 e9
        rw [hl2] at e1
        refine hk D' C' fi' ar' e1 e2 e3 e4 (eqF.tr (eqF.up eqF.rf (by decide)) e5) e6 e7 (eqA.tr (eqA.up (eqA.up eqA.rf (by decide)) (by decide)) e8) (lowE.tr (fun j hj => ?_) e9)
        exact ⟨by rw [ua_o (by decide), ua_n (by omega)], by rw [ua_n (by omega), ua_o (by decide)]⟩
theorem lp_spill_out (hG : mr_Cl K1 cX1_spill 3 none 2 48 Post h ad G) {P : Nat} (hP1 : 1 ≤ P) (hP4 : P ≤ 4) {E N : Nat} (hN : N ≤ 31) {l : PL} (h8 : l.length ≤ 8) (h64 : E + l.length ≤ 64) (h16 : ∀ x ∈ l, x.1 < 16) (hs : srt P l) :
    ∀ (n part : Nat) (C D : PL) (fi : Nat → Int32) (ar : Nat → Nat → Int32), part ≤ 4 → 4 < part + n → D ++ C = l → fi 0 = nI P → fi 17 = nI N → fi 13 = nI l.length → fi 18 = nI (E + D.length) → hold (ar 14) (ar 15) D.length C → hold (ar 19) (ar 20) E D → (∀ x ∈ C, 16 * part ≤ rk P x.1) → (∀ x ∈ D, rk P x.1 < 16 * part) → (∀ q, q < part → ar 21 (5 * N + q) = nI (E + pos P l (16 * q))) →
    (∀ (fi' : Nat → Int32) (ar' : Nat → Nat → Int32), fi' 17 = nI (N + 1) → fi' 18 = nI (E + l.length) → fi' 13 = nI 0 → eqF [13, 17, 18] fi fi' → hold (ar' 19) (ar' 20) E l → lowE E ar ar' → (∀ q, q ≤ 4 → ar' 21 (5 * N + q) = nI (E + pos P l (16 * q))) → (∀ j, j < 5 * N → ar' 21 j = ar 21 j) → eqA [19, 20, 21] ar ar' → Post 0 fi' ar') →
    G 20 [.ref h, .int (nI D.length), .int (nI part)] [] fi ar := by
  intro n
  induction n with
  | zero => intro part C D fi ar h1 h2; omega
  | succ n ih =>
    intro part C D fi ar h1 h2 hl hP hn hb he hC hD hrC hrD hst hk
    have hlen : D.length + C.length = l.length := by rw [← hl, List.length_append]
    have hpos : pos P l (16 * part) = D.length := by rw [← hl]; exact pos_split hrD hrC
    refine mr_iload2 hG dX1_spill_20 ?_
    refine mr_iconst hG 4 dX1_spill_21 (by decide) ?_
    show G 22 _ _ _ _
    refine mr_icmp_geN hG 118 dX1_spill_22 (by decide) (by omega) (by omega) (fun c => ?_) (fun c => ?_)
    · have e4 : part = 4 := by omega
      subst e4
      have hC0 : C = [] := by
        cases C with
        | nil => rfl
        | cons x C =>
          have g1 := hrC x List.mem_cons_self
          have g2 := rk_64 (P := P) hP1 hP4 (h16 x (by rw [← hl]; simp))
          omega
      subst hC0
      rw [List.append_nil] at hl
      subst hl
      refine mr_aload0 hG dX1_spill_118 ?_
      refine f1_get_21 hG dX1_spill_119 ?_
      refine mr_iconst hG 5 dX1_spill_122 (by decide) ?_
      refine mr_aload0 hG dX1_spill_123 ?_
      refine f1_get_17 hG dX1_spill_124 ?_
      refine mr_top (hn) ?_
      refine mr_imulN hG dX1_spill_127 ?_
      refine mr_iconst hG 4 dX1_spill_128 (by decide) ?_
      refine mr_iaddN hG dX1_spill_129 ?_
      refine mr_aload0 hG dX1_spill_130 ?_
      refine f1_get_18 hG dX1_spill_131 ?_
      refine mr_top (he) ?_
      refine mr_i2b hG dX1_spill_134 (i8 _ (by omega)) ?_
      refine f1_st_21 hG dX1_spill_135 (5 * N + 4) rfl (by omega) (nar_b (by omega)) ?_
      show G 136 _ _ _ _
      refine mr_aload0 hG dX1_spill_136 ?_
      refine mr_dup hG dX1_spill_137 rfl ?_
      refine f1_get_17 hG dX1_spill_138 ?_
      refine mr_top (hn) ?_
      refine mr_iconst hG 1 dX1_spill_141 (by decide) ?_
      refine mr_iaddN hG dX1_spill_142 ?_
      refine f1_put_17 hG dX1_spill_143 ?_
      refine mr_aload0 hG dX1_spill_146 ?_
      refine mr_iconst hG 0 dX1_spill_147 (by decide) ?_
      refine f1_put_13 hG dX1_spill_148 ?_
      show G 151 _ _ _ _
      refine mr_vret hG dX1_spill_151 (hk _ _ ?_ ?_ ?_ ?_ ?_ ?_ ?_ ?_ ?_)
      · rw [up_n (by decide), up_s]
      · rw [up_n (by decide), up_n (by decide)]; exact he
      · rw [up_s]
      · exact eqF.up (eqF.up eqF.rf (by decide)) (by decide)
      · rw [ua_o (by decide), ua_o (by decide)]; exact hD
      · intro j hj
        rw [ua_o (by decide), ua_o (by decide)]
        exact ⟨rfl, rfl⟩
      · intro q hq
        by_cases h9 : q = 4
        · subst h9; rw [ua_s, hpos]
        · rw [ua_n (by omega)]; exact hst q (by omega)
      · intro j hj
        rw [ua_n (by omega)]
      · exact eqA.up eqA.rf (by decide)
    · refine mr_aload0 hG dX1_spill_25 ?_
      refine f1_get_21 hG dX1_spill_26 ?_
      refine mr_iconst hG 5 dX1_spill_29 (by decide) ?_
      refine mr_aload0 hG dX1_spill_30 ?_
      refine f1_get_17 hG dX1_spill_31 ?_
      refine mr_top (hn) ?_
      refine mr_imulN hG dX1_spill_34 ?_
      refine mr_iload2 hG dX1_spill_35 ?_
      refine mr_iaddN hG dX1_spill_36 ?_
      refine mr_aload0 hG dX1_spill_37 ?_
      refine f1_get_18 hG dX1_spill_38 ?_
      refine mr_top (he) ?_
      refine mr_i2b hG dX1_spill_41 (i8 _ (by omega)) ?_
      refine f1_st_21 hG dX1_spill_42 (5 * N + part) rfl (by omega) (nar_b (by omega)) ?_
      show G 43 _ _ _ _
      refine lp_spill_in hG hP1 hP4 (by omega) C D fi _ hP (by rw [hb, hlen]) he (by omega) (by omega) ?_ ?_ (fun x hx => h16 x (by rw [← hl]; exact List.mem_append_right _ hx)) (by rw [hl]; exact hs) hrC (fun x hx => by have := hrD x hx; omega) ?_
      · rw [ua_o (by decide), ua_o (by decide)]; exact hC
      · rw [ua_o (by decide), ua_o (by decide)]; exact hD
      · intro D' C' fi' ar' e1 e2 e3 e4 e5 e6 e7 e8 e9
        refine mr_iincS2 hG dX1_spill_112 ?_
        refine mr_goto hG 20 dX1_spill_115 (by decide) ?_
        show G 20 _ _ _ _
        refine ih (part + 1) C' D' fi' ar' (by omega) (by omega) (by rw [e1, hl]) (by rw [e5 0 (by decide)]; exact hP) (by rw [e5 17 (by decide)]; exact hn) (by rw [e5 13 (by decide)]; exact hb) e4 e6 e7 e3 e2 ?_ ?_
        · intro q hq
          rw [e8 21 (by decide)]
          by_cases h9 : q = part
          · subst h9; rw [ua_s, hpos]
          · rw [ua_n (by omega)]; exact hst q (by omega)
        · intro fi2 ar2 g1 g2 g3 g4 g5 g6 g7 g8 g9
          refine hk fi2 ar2 g1 g2 g3 (eqF.tr (e5.wk (by decide)) g4) g5 ?_ g7 ?_ ?_
          · refine lowE.tr (fun j hj => ?_) (lowE.tr e9 g6)
            rw [ua_o (by decide), ua_o (by decide)]
            exact ⟨rfl, rfl⟩
          · intro j hj
            rw [g8 j hj, e8 21 (by decide), ua_n (by omega)]
          · exact eqA.tr (eqA.up eqA.rf (by decide)) (eqA.tr (e8.wk (by decide)) g9)
theorem Sp.push {P : Nat} {fi fi' : Nat → Int32} {ar ar' : Nat → Nat → Int32} {sps : List PL} {l : PL} (hS : Sp P fi ar sps) (h17 : fi' 17 = nI (sps.length + 1)) (h18 : fi' 18 = nI (sps.flatten.length + l.length)) (hs : srt P l) (h16 : ∀ x ∈ l, x.1 < 16) (hH : hold (ar' 19) (ar' 20) sps.flatten.length l) (hlow : lowE sps.flatten.length ar ar') (hst : ∀ q, q ≤ 4 → ar' 21 (5 * sps.length + q) = nI (sps.flatten.length + pos P l (16 * q))) (hst2 : ∀ j, j < 5 * sps.length → ar' 21 j = ar 21 j) : Sp P fi' ar' (sps ++ [l]) := by
  obtain ⟨s1, s2, s3, s4, s5⟩ := hS
  have hfl : (sps ++ [l]).flatten = sps.flatten ++ l := by simp
  refine ⟨by rw [h17]; simp, by rw [h18, hfl, List.length_append], ?_, ?_, ?_⟩
  · rw [hfl, hold_app, Nat.zero_add]
    exact ⟨hold_fr s3 (fun j g1 g2 => hlow j (by omega)), hH⟩
  · intro x hx
    rcases List.mem_append.mp hx with g | g
    · exact s4 x g
    · rw [List.mem_singleton.mp g]; exact ⟨hs, h16⟩
  · intro s x hx p hp
    by_cases hlt : s < sps.length
    · rw [List.getElem?_append_left hlt] at hx
      rw [hst2 _ (by omega), List.take_append_of_le_length (by omega)]
      exact s5 s x hx p hp
    · have hlt2 := (List.getElem?_eq_some_iff.mp hx).1
      simp only [List.length_append, List.length_singleton] at hlt2
      have e : s = sps.length := by omega
      subst e
      rw [List.getElem?_append_right (by omega), Nat.sub_self] at hx
      cases hx
      rw [List.take_left]
      exact hst p hp
theorem ct_spill {fi : Nat → Int32} {ar : Nat → Nat → Int32} {P r : Nat} (hP : fi 0 = nI P) (hP1 : 1 ≤ P) (hP4 : P ≤ 4) (hr : fi 12 = nI r) (hr4 : r ≤ 4) {buf : PL} {sps : List PL} (hb : fi 13 = nI buf.length) (h0 : buf ≠ []) (h8 : buf.length ≤ 8) (hH : hold (ar 14) (ar 15) 0 buf) (h16 : ∀ x ∈ buf, x.1 < 16) (hS : Sp P fi ar sps) (h31 : sps.length ≤ 31) (h64 : sps.flatten.length + buf.length ≤ 64) : mr_Con K1 yX1_spill cX1_spill 3 none 2 48 [] fi ar (fun _ fi' ar' => eqF [13, 17, 18] fi fi' ∧ eqA [14, 15, 19, 20, 21] ar ar' ∧ fi' 13 = nI 0 ∧ ∃ l' : PL, l'.length ≤ buf.length ∧ (∀ k o, fv r k o l' = fv r k o buf) ∧ Sp P fi' ar' (sps ++ [l'])) := by
  refine mr_con ok1 (by decide) rfl 2 rfl rfl ?_
  intro h ad G hG
  show G 0 [.ref h, .null, .null] [] fi ar
  have tail : ∀ (l : PL) (fi2 : Nat → Int32) (ar2 : Nat → Nat → Int32), l.length ≤ buf.length → srt P l → (∀ x ∈ l, x.1 < 16) → (∀ k o, fv r k o l = fv r k o buf) → hold (ar2 14) (ar2 15) 0 l → eqA [14, 15] ar ar2 → eqF [13] fi fi2 → fi2 13 = nI l.length → G 16 [.ref h, .null, .null] [] fi2 ar2 := by
    intro l fi2 ar2 g1 g2 g3 g4 g5 g6 g7 g8
    refine mr_iconst hG 0 dX1_spill_16 (by decide) ?_
    refine mr_istore1 hG dX1_spill_17 ?_
    refine mr_iconst hG 0 dX1_spill_18 (by decide) ?_
    refine mr_istore2 hG dX1_spill_19 ?_
    show G 20 _ _ _ _
    have hS1 := hS.1
    have hS2 := hS.2.1
    refine lp_spill_out hG hP1 hP4 h31 (l := l) (E := sps.flatten.length) (by omega) (by omega) g3 g2 5 0 l [] fi2 ar2 (by omega) (by omega) rfl (by rw [g7 0 (by decide)]; exact hP) (by rw [g7 17 (by decide)]; exact hS1) g8 (by rw [g7 18 (by decide)]; exact hS2) g5 hold_nil (fun x hx => by omega) (fun x hx => by simp at hx) (fun q hq => by omega) ?_
    intro fi3 ar3 e1 e2 e3 e4 e5 e6 e7 e8 e9
    refine ⟨eqF.tr (g7.wk (by decide)) e4, eqA.tr (g6.wk (by decide)) (e9.wk (by decide)), e3, l, g1, g4, ?_⟩
    refine hS.push e1 e2 g2 g3 e5 ?_ e7 ?_
    · refine lowE.tr (fun j hj => ?_) e6
      rw [g6 19 (by decide), g6 20 (by decide)]
      exact ⟨rfl, rfl⟩
    · intro j hj
      rw [e8 j hj, g6 21 (by decide)]
  refine mr_aload0 hG dX1_spill_0 ?_
  show G 1 _ _ _ _
  refine mr_callv hG (ct_sortBuffer hP hP1 hP4 hb h0 h8 hH h16) wd_sortBuffer co_sortBuffer (by decide) rfl (by decide) dX1_spill_1 ?_
  rintro fi' ar1 ⟨rfl, f1, l1, f2, f3, f4, f5⟩
  have f6 : ∀ x ∈ l1, x.1 < 16 := fun x hx => h16 x ((f4.len x).mp hx)
  have f7 : l1 ≠ [] := fun e => by
    rw [e] at f2
    exact h0 (List.length_eq_zero_iff.mp f2.symm)
  refine mr_aload0 hG dX1_spill_4 ?_
  refine f1_get_12 hG dX1_spill_5 ?_
  refine mr_top (hr) ?_
  refine mr_iconst hG 4 dX1_spill_8 (by decide) ?_
  show G 9 _ _ _ _
  refine mr_icmp_eqN hG 16 dX1_spill_9 (by decide) (by omega) (by omega) (fun c => ?_) (fun c => ?_)
  · exact tail l1 fi' ar1 (by omega) f3 f6 (fun k o => f4.fv) f5 f1 eqF.rf (by rw [hb, f2])
  · refine mr_aload0 hG dX1_spill_12 ?_
    show G 13 _ _ _ _
    refine mr_callv hG (ct_combineBuffer (P := P) hr (by omega) (l := l1) (by rw [hb, f2]) f7 (by omega) f5 f6 f3) wd_combineBuffer co_combineBuffer (by decide) rfl (by decide) dX1_spill_13 ?_
    rintro fi2 ar2 ⟨g1, l2, g2, g3, g4, g5, g6, g7, rfl⟩
    exact tail l2 _ ar2 (by omega) g4 g5 (fun k o => by rw [g6, f4.fv]) g7 (eqA.tr f1 g1) (eqF.up eqF.rf (by decide)) up_s
end Spl
end
section
set_option maxRecDepth 100000
set_option linter.unusedVariables false
/-! mapRecord, mapSplit -/
def kq (M : Nat) (k : Int32) : Int32 := k - k / nI M * nI M
def km (M : Nat) (k : Int32) : Nat := (if 0 ≤ kq M k then kq M k else kq M k + nI M).toNatClampNeg
theorem kq_toInt {M : Nat} (h1 : 1 ≤ M) (h16 : M ≤ 16) (k : Int32) : (kq M k).toInt = k.toInt.tmod M := by
  have hk1 := Int32.le_toInt k
  have hk2 := Int32.toInt_lt k
  have hM : (nI M).toInt = M := nI_toInt (by omega)
  have e := Int.mul_tdiv_add_tmod k.toInt M
  have t1 : k.toInt.tmod M < M := Int.tmod_lt_of_pos _ (by omega)
  have t2 : -(M : Int) < k.toInt.tmod M := Int.lt_tmod_of_pos _ (by omega)
  have t3 : 0 ≤ k.toInt → 0 ≤ k.toInt.tmod M := fun h => Int.tmod_nonneg _ h
  have t4 : k.toInt ≤ 0 → k.toInt.tmod M ≤ 0 := fun h => by
    have h2 := Int.tmod_nonneg (a := -k.toInt) (M : Int) (by omega)
    rw [Int.neg_tmod] at h2
    omega
  have d1 : -(2147483648 : Int) ≤ k.toInt.tdiv M ∧ k.toInt.tdiv M < 2147483648 := by
    have := Int.natAbs_tdiv_le_natAbs k.toInt M
    have g1 : 0 ≤ k.toInt → 0 ≤ k.toInt.tdiv M := fun h => Int.tdiv_nonneg h (by omega)
    have g2 : k.toInt ≤ 0 → k.toInt.tdiv M ≤ 0 := fun h => by
      have h2 := Int.tdiv_nonneg (a := -k.toInt) (b := (M : Int)) (by omega) (by omega)
      rw [Int.neg_tdiv] at h2
      omega
    omega
  have hd : (k / nI M).toInt = k.toInt.tdiv M := by
    rw [Int32.toInt_div, hM]
    exact Int.bmod_eq_of_le (by omega) (by omega)
  have hm : (k / nI M * nI M).toInt = k.toInt - k.toInt.tmod M := by
    rw [Int32.toInt_mul, hd, hM, Int.mul_comm]
    rw [Int.bmod_eq_of_le (by omega) (by omega)]
    omega
  unfold kq
  rw [Int32.toInt_sub, hm]
  rw [Int.bmod_eq_of_le (by omega) (by omega)]
  omega
theorem km_spec {M : Nat} (h1 : 1 ≤ M) (h16 : M ≤ 16) (k : Int32) : (0 ≤ kq M k → kq M k = nI (km M k)) ∧ (¬ 0 ≤ kq M k → kq M k + nI M = nI (km M k)) ∧ km M k < M := by
  have e := kq_toInt h1 h16 k
  have t1 : k.toInt.tmod M < M := Int.tmod_lt_of_pos _ (by omega)
  have t2 : -(M : Int) < k.toInt.tmod M := Int.lt_tmod_of_pos _ (by omega)
  have hM : (nI M).toInt = M := nI_toInt (by omega)
  by_cases h : 0 ≤ kq M k
  · obtain ⟨j, hj, ej⟩ := nI_of (le_nlt h)
    have hkm : km M k = j := by unfold km; rw [if_pos h, ej, nI_clamp hj]
    refine ⟨fun _ => by rw [hkm]; exact ej, fun h2 => absurd h h2, ?_⟩
    rw [ej, nI_toInt hj] at e
    omega
  · have h2 : (kq M k + nI M).toInt = (kq M k).toInt + M := by
      rw [Int32.toInt_add, hM]
      exact Int.bmod_eq_of_le (by omega) (by omega)
    rw [i_le, i_0] at h
    have h3 : ¬ kq M k + nI M < 0 := by rw [i_lt, h2, i_0]; omega
    obtain ⟨j, hj, ej⟩ := nI_of h3
    have hkm : km M k = j := by unfold km; rw [if_neg (by rw [i_le, i_0]; exact h), ej, nI_clamp hj]
    refine ⟨fun h9 => absurd h9 (by rw [i_le, i_0]; exact h), fun _ => by rw [hkm]; exact ej, ?_⟩
    rw [ej, nI_toInt hj] at h2
    omega
/-- the pair of a record, if it has one -/
def one (M : Nat) (F O lo hi : Int32) (r : Nat) (k v : Int32) : PL := if v < lo then [] else if v ≤ hi then [(km M k, if r = 3 then nI 1 else F * v + O)] else []
/-- the pairs of n records from b on -/
def pr (g : Nat → PL) (b : Nat) : Nat → PL
  | 0 => []
  | n + 1 => pr g b n ++ g (b + n)
theorem pr_s {g : Nat → PL} {b n : Nat} : pr g b (n + 1) = pr g b n ++ g (b + n) := rfl
theorem one_len (M : Nat) (F O lo hi : Int32) (r : Nat) (k v : Int32) : (one M F O lo hi r k v).length ≤ 1 := by
  unfold one
  split
  · simp
  · split
    · simp
    · simp
theorem pr_len {g : Nat → PL} (hg : ∀ a, (g a).length ≤ 1) (b : Nat) : ∀ n, (pr g b n).length ≤ n
  | 0 => Nat.le_refl 0
  | n + 1 => by
    have h1 := pr_len hg b n
    have h2 := hg (b + n)
    unfold pr
    rw [List.length_append]
    omega
def Cf (P B M r : Nat) (fi : Nat → Int32) : Prop := (fi 0 = nI P ∧ 1 ≤ P ∧ P ≤ 4) ∧ (fi 1 = nI B ∧ 2 ≤ B ∧ B ≤ 8) ∧ (fi 5 = nI M ∧ 1 ≤ M ∧ M ≤ 16) ∧ fi 12 = nI r ∧ r ≤ 4
def Bf (fi : Nat → Int32) (ar : Nat → Nat → Int32) (buf : PL) : Prop := fi 13 = nI buf.length ∧ hold (ar 14) (ar 15) 0 buf ∧ ∀ x ∈ buf, x.1 < 16
theorem Cf.eq {P B M r : Nat} {fi fi' : Nat → Int32} {S : List Nat} (h : Cf P B M r fi) (he : eqF S fi fi') (h0 : 0 ∉ S) (h1 : 1 ∉ S) (h5 : 5 ∉ S) (h12 : 12 ∉ S) : Cf P B M r fi' := by
  obtain ⟨⟨a1, a2⟩, ⟨b1, b2⟩, ⟨c1, c2⟩, d1, d2⟩ := h
  exact ⟨⟨by rw [he 0 h0]; exact a1, a2⟩, ⟨by rw [he 1 h1]; exact b1, b2⟩, ⟨by rw [he 5 h5]; exact c1, c2⟩, by rw [he 12 h12]; exact d1, d2⟩
theorem Sp.eq {P : Nat} {fi fi' : Nat → Int32} {ar ar' : Nat → Nat → Int32} {sps : List PL} (h : Sp P fi ar sps) (h17 : fi' 17 = fi 17) (h18 : fi' 18 = fi 18) (h19 : ar' 19 = ar 19) (h20 : ar' 20 = ar 20) (h21 : ar' 21 = ar 21) : Sp P fi' ar' sps := by
  unfold Sp
  rw [h17, h18, h19, h20, h21]
  exact h
theorem Sp.cut {P : Nat} {fi fi' : Nat → Int32} {ar : Nat → Nat → Int32} {sps ext : List PL} (h : Sp P fi ar (sps ++ ext)) (h17 : fi' 17 = nI sps.length) (h18 : fi' 18 = nI sps.flatten.length) : Sp P fi' ar sps := by
  obtain ⟨-, -, s3, s4, s5⟩ := h
  rw [List.flatten_append, hold_app] at s3
  refine ⟨h17, h18, s3.1, fun l hl => s4 l (List.mem_append_left _ hl), fun s l hl p hp => ?_⟩
  have hlt := (List.getElem?_eq_some_iff.mp hl).1
  have e := s5 s l (by rw [List.getElem?_append_left hlt]; exact hl) p hp
  rw [List.take_append_of_le_length (by omega)] at e
  exact e
theorem co_spill : mr_callok K1 yX1_spill [] := ⟨rfl, by decide, by decide, by decide +kernel⟩
theorem wd_spill : GoodIn lw_all (wsV K1.1 116 K1.1 yX1_spill (ws_ yX1_spill cX1_spill 3 none)) := lw_V q148 q150 qs3 q17 q151
theorem co_mapRecord {a : Value} : mr_callok K1 yX1_mapRecord [a] := ⟨rfl, by decide, by decide, by show _ = some 1; decide +kernel⟩
theorem wd_mapRecord : GoodIn lw_all (wsV K1.1 113 K1.1 yX1_mapRecord (ws_ yX1_mapRecord cX1_mapRecord 4 none)) := lw_V q144 q146 qs2 q17 q147
theorem ct_mapRecord {fi : Nat → Int32} {ar : Nat → Nat → Int32} {P B M r a c : Nat} (hC : Cf P B M r fi) (ha : a < 64) (hc : fi 16 = nI c) {buf : PL} {sps : List PL} (hB : Bf fi ar buf) (hbB : buf.length ≤ B) (hS : Sp P fi ar sps) (h63 : 2 * sps.length + buf.length ≤ 63) (h64 : sps.flatten.length + buf.length ≤ 63) : mr_Con K1 yX1_mapRecord cX1_mapRecord 4 none 3 70 [.int (nI a)] fi ar (fun _ fi' ar' => eqF [13, 16, 17, 18] fi fi' ∧ eqA [14, 15, 19, 20, 21] ar ar' ∧ fi' 16 = nI (c + (one M (fi 6) (fi 7) (fi 8) (fi 9) r (ar 3 a) (ar 4 a)).length) ∧ ∃ (sps' : List PL) (buf' : PL), Bf fi' ar' buf' ∧ buf'.length ≤ B ∧ Sp P fi' ar' sps' ∧ (∃ ext, sps' = sps ++ ext) ∧ 2 * sps'.length + buf'.length ≤ 2 * sps.length + buf.length + 1 ∧ sps'.flatten.length + buf'.length ≤ sps.flatten.length + buf.length + 1 ∧ ∀ k o, fv r k o (sps'.flatten ++ buf') = fv r k o (sps.flatten ++ buf ++ one M (fi 6) (fi 7) (fi 8) (fi 9) r (ar 3 a) (ar 4 a))) := by
  refine mr_con ok1 (by decide) rfl 2 rfl rfl ?_
  intro h ad G hG
  show G 0 [.ref h, .int (nI a), .null, .null] [] fi ar
  obtain ⟨⟨hP, hP1, hP4⟩, ⟨hB1, hB2, hB8⟩, ⟨hM, hM1, hM16⟩, hr, hr4⟩ := hC
  obtain ⟨hb, hH, h16⟩ := hB
  have hkm := km_spec hM1 hM16 (ar 3 a)
  generalize hone : one M (fi 6) (fi 7) (fi 8) (fi 9) r (ar 3 a) (ar 4 a) = on at hG
  unfold one at hone
  refine mr_aload0 hG dX1_mapRecord_0 ?_
  refine f1_get_4 hG dX1_mapRecord_1 ?_
  refine mr_iload1 hG dX1_mapRecord_4 ?_
  refine f1_ld_4 hG dX1_mapRecord_5 a rfl (by omega) ?_
  refine mr_istore2 hG dX1_mapRecord_6 ?_
  refine mr_iload2 hG dX1_mapRecord_7 ?_
  refine mr_aload0 hG dX1_mapRecord_8 ?_
  refine f1_get_8 hG dX1_mapRecord_9 ?_
  show G 12 _ _ _ _
  have skip : on = [] → G 23 [.ref h, .int (nI a), .int (ar 4 a), .null] [] fi ar := by
    intro e
    rw [e] at hG
    exact mr_vret hG dX1_mapRecord_23 ⟨eqF.rf, eqA.rf, by simpa using hc, sps, buf, ⟨hb, hH, h16⟩, hbB, hS, ⟨[], by simp⟩, by omega, by omega, fun k o => by rw [List.append_nil]⟩
  refine mr_icmp_lt hG 23 dX1_mapRecord_12 (by decide) (fun c1 => ?_) (fun c1 => ?_)
  · rw [if_pos c1] at hone
    exact skip hone.symm
  · rw [if_neg c1] at hone
    refine mr_iload2 hG dX1_mapRecord_15 ?_
    refine mr_aload0 hG dX1_mapRecord_16 ?_
    refine f1_get_9 hG dX1_mapRecord_17 ?_
    show G 20 _ _ _ _
    refine mr_icmp_le hG 24 dX1_mapRecord_20 (by decide) (fun c2 => ?_) (fun c2 => ?_)
    · rw [if_pos c2] at hone
      generalize hw : (if r = 3 then nI 1 else fi 6 * ar 4 a + fi 7) = w at hone
      have fin : ∀ (fi2 : Nat → Int32) (ar2 : Nat → Nat → Int32) (sps2 : List PL) (buf2 : PL), eqF [13, 16, 17, 18] fi fi2 → eqA [14, 15, 19, 20, 21] ar ar2 → fi2 16 = nI (c + 1) → Bf fi2 ar2 buf2 → buf2.length + 1 ≤ B → Sp P fi2 ar2 sps2 → (∃ ext, sps2 = sps ++ ext) → 2 * sps2.length + buf2.length ≤ 2 * sps.length + buf.length → sps2.flatten.length + buf2.length ≤ sps.flatten.length + buf.length → (∀ k o, fv r k o (sps2.flatten ++ buf2) = fv r k o (sps.flatten ++ buf)) → G 72 [.ref h, .int (nI a), .int (ar 4 a), .int (nI (km M (ar 3 a)))] [] fi2 ar2 := by
        intro fi2 ar2 sps2 buf2 e1 e2 e3 e4 e5 e6 e7 e8 e9 e10
        obtain ⟨f1, f2, f3⟩ := e4
        refine mr_aload0 hG dX1_mapRecord_72 ?_
        refine f1_get_14 hG dX1_mapRecord_73 ?_
        refine mr_aload0 hG dX1_mapRecord_76 ?_
        refine f1_get_13 hG dX1_mapRecord_77 ?_
        refine mr_top (f1) ?_
        refine mr_iload3 hG dX1_mapRecord_80 ?_
        refine mr_i2b hG dX1_mapRecord_81 (i8 _ (by omega)) ?_
        refine f1_st_14 hG dX1_mapRecord_82 buf2.length rfl (by omega) (nar_b (by omega)) ?_
        refine mr_aload0 hG dX1_mapRecord_83 ?_
        refine f1_get_15 hG dX1_mapRecord_84 ?_
        refine mr_aload0 hG dX1_mapRecord_87 ?_
        refine f1_get_13 hG dX1_mapRecord_88 ?_
        refine mr_top (f1) ?_
        refine mr_aload0 hG dX1_mapRecord_91 ?_
        refine f1_get_12 hG dX1_mapRecord_92 ?_
        refine mr_top ((by rw [e1 12 (by decide)]; exact hr : _ = nI r)) ?_
        refine mr_iconst hG 3 dX1_mapRecord_95 (by decide) ?_
        show G 96 _ _ _ _
        have fin2 : G 114 [.ref h, .int (nI a), .int (ar 4 a), .int (nI (km M (ar 3 a)))] [.int w, .int (nI buf2.length), .ref (ad 15)] fi2 (ua ar2 14 buf2.length (nI (km M (ar 3 a)))) := by
          refine f1_st_15 hG dX1_mapRecord_114 buf2.length rfl (by omega) rfl ?_
          refine mr_aload0 hG dX1_mapRecord_115 ?_
          refine mr_dup hG dX1_mapRecord_116 rfl ?_
          refine f1_get_13 hG dX1_mapRecord_117 ?_
          refine mr_top (f1) ?_
          refine mr_iconst hG 1 dX1_mapRecord_120 (by decide) ?_
          refine mr_iaddN hG dX1_mapRecord_121 ?_
          refine f1_put_13 hG dX1_mapRecord_122 ?_
          show G 125 _ _ _ _
          refine mr_vret hG dX1_mapRecord_125 ⟨eqF.up e1 (by decide), eqA.up (eqA.up e2 (by decide)) (by decide), ?_, sps2, buf2 ++ [(km M (ar 3 a), w)], ⟨?_, ?_, ?_⟩, ?_, ?_, e7, ?_, ?_, ?_⟩
          · rw [up_n (by decide), e3, ← hone]
            rfl
          · rw [up_s, List.length_append]
            rfl
          · rw [hold_app, Nat.zero_add]
            refine ⟨hold_fr f2 (fun j g1 g2 => ⟨by rw [ua_o (by decide), ua_n (by omega)], by rw [ua_n (by omega), ua_o (by decide)]⟩), hold_cons.mpr ⟨⟨by rw [ua_o (by decide), ua_s], by rw [ua_s]⟩, hold_nil⟩⟩
          · intro x hx
            rcases List.mem_append.mp hx with g | g
            · exact f3 x g
            · rw [List.mem_singleton.mp g]
              exact Nat.lt_of_lt_of_le hkm.2.2 hM16
          · rw [List.length_append]; exact e5
          · exact e6.eq (by rw [up_n (by decide)]) (by rw [up_n (by decide)]) (by rw [ua_o (by decide), ua_o (by decide)]) (by rw [ua_o (by decide), ua_o (by decide)]) (by rw [ua_o (by decide), ua_o (by decide)])
          · rw [List.length_append]; simp only [List.length_singleton]; omega
          · rw [List.length_append]; simp only [List.length_singleton]; omega
          · intro k o
            rw [← List.append_assoc, fv_app, e10, ← hone, ← fv_app]
        refine mr_icmp_neN hG 103 dX1_mapRecord_96 (by decide) (by omega) (by omega) (fun c5 => ?_) (fun c5 => ?_)
        · rw [if_neg c5] at hw
          refine mr_aload0 hG dX1_mapRecord_103 ?_
          refine f1_get_6 hG dX1_mapRecord_104 ?_
          refine mr_top ((e1 6 (by decide))) ?_
          refine mr_iload2 hG dX1_mapRecord_107 ?_
          refine mr_imul hG dX1_mapRecord_108 ?_
          refine mr_aload0 hG dX1_mapRecord_109 ?_
          refine f1_get_7 hG dX1_mapRecord_110 ?_
          refine mr_top ((e1 7 (by decide))) ?_
          refine mr_iadd hG dX1_mapRecord_113 ?_
          show G 114 _ _ _ _
          rw [hw]
          exact fin2
        · rw [if_pos c5] at hw
          refine mr_iconst hG 1 dX1_mapRecord_99 (by decide) ?_
          refine mr_goto hG 114 dX1_mapRecord_100 (by decide) ?_
          show G 114 _ _ _ _
          rw [hw]
          exact fin2
      have mid : G 57 [.ref h, .int (nI a), .int (ar 4 a), .int (nI (km M (ar 3 a)))] [] (upd fi 16 (nI (c + 1))) ar := by
        refine mr_aload0 hG dX1_mapRecord_57 ?_
        refine f1_get_13 hG dX1_mapRecord_58 ?_
        refine mr_top ((by rw [up_n (by decide)]; exact hb : _ = nI buf.length)) ?_
        refine mr_aload0 hG dX1_mapRecord_61 ?_
        refine f1_get_1 hG dX1_mapRecord_62 ?_
        refine mr_top ((by rw [up_n (by decide)]; exact hB1 : _ = nI B)) ?_
        show G 65 _ _ _ _
        have hS2 : Sp P (upd fi 16 (nI (c + 1))) ar sps := hS.eq (by rw [up_n (by decide)]) (by rw [up_n (by decide)]) rfl rfl rfl
        refine mr_icmp_neN hG 72 dX1_mapRecord_65 (by decide) (by omega) (by omega) (fun c4 => ?_) (fun c4 => ?_)
        · exact fin _ ar sps buf (eqF.up eqF.rf (by decide)) eqA.rf up_s ⟨by rw [up_n (by decide)]; exact hb, hH, h16⟩ (by omega) hS2 ⟨[], by simp⟩ (by omega) (by omega) (fun k o => rfl)
        · refine mr_aload0 hG dX1_mapRecord_68 ?_
          show G 69 _ _ _ _
          refine mr_callv hG (ct_spill (r := r) (buf := buf) (sps := sps) (by rw [up_n (by decide)]; exact hP) hP1 hP4 (by rw [up_n (by decide)]; exact hr) hr4 (by rw [up_n (by decide)]; exact hb) (by intro e; rw [e] at c4; simp at c4; omega) (by omega) hH h16 hS2 (by omega) (by omega)) wd_spill co_spill (by decide) rfl (by decide) dX1_mapRecord_69 ?_
          rintro fi2 ar2 ⟨g1, g2, g3, l', g4, g5, g6⟩
          refine fin fi2 ar2 (sps ++ [l']) [] (eqF.tr (eqF.up eqF.rf (by decide)) (g1.wk (by decide))) g2 (by rw [g1 16 (by decide), up_s]) ⟨g3, hold_nil, fun x hx => by simp at hx⟩ (by simp; omega) g6 ⟨[l'], rfl⟩ ?_ ?_ ?_
          · simp only [List.length_append, List.length_singleton, List.length_nil]; omega
          · simp only [List.flatten_append, List.length_append, List.length_nil, List.flatten_cons, List.flatten_nil]; omega
          · intro k o
            rw [List.append_nil, List.flatten_append]
            simp only [List.flatten_cons, List.flatten_nil, List.append_nil]
            rw [fv_app, g5, ← fv_app]
      refine mr_aload0 hG dX1_mapRecord_24 ?_
      refine mr_dup hG dX1_mapRecord_25 rfl ?_
      refine f1_get_16 hG dX1_mapRecord_26 ?_
      refine mr_top (hc) ?_
      refine mr_iconst hG 1 dX1_mapRecord_29 (by decide) ?_
      refine mr_iaddN hG dX1_mapRecord_30 ?_
      refine f1_put_16 hG dX1_mapRecord_31 ?_
      refine mr_aload0 hG dX1_mapRecord_34 ?_
      refine f1_get_3 hG dX1_mapRecord_35 ?_
      refine mr_iload1 hG dX1_mapRecord_38 ?_
      refine f1_ld_3 hG dX1_mapRecord_39 a rfl (by omega) ?_
      refine mr_aload0 hG dX1_mapRecord_40 ?_
      refine f1_get_5 hG dX1_mapRecord_41 ?_
      refine mr_top ((by rw [up_n (by decide)]; exact hM : _ = nI M)) ?_
      show G 44 _ _ _ _
      refine mr_irem hG dX1_mapRecord_44 (nI_ne0 (by omega) (by omega)) ?_
      show G 45 _ (.int (kq M (ar 3 a)) :: _) _ _
      refine mr_istore3 hG dX1_mapRecord_45 ?_
      refine mr_iload3 hG dX1_mapRecord_46 ?_
      show G 47 _ _ _ _
      refine mr_if_ge hG 57 dX1_mapRecord_47 (by decide) (fun c3 => ?_) (fun c3 => ?_)
      · rw [hkm.1 c3]
        exact mid
      · refine mr_iload3 hG dX1_mapRecord_50 ?_
        refine mr_aload0 hG dX1_mapRecord_51 ?_
        refine f1_get_5 hG dX1_mapRecord_52 ?_
        refine mr_top ((by rw [up_n (by decide)]; exact hM : _ = nI M)) ?_
        refine mr_iadd hG dX1_mapRecord_55 ?_
        refine mr_istore3 hG dX1_mapRecord_56 ?_
        show G 57 _ _ _ _
        rw [hkm.2.1 c3]
        exact mid
    · rw [if_neg c2] at hone
      exact skip hone.symm
section MpS
variable {Post : mr_PT} {h : Nat} {ad : Nat → Nat} {G : mr_GT}
/-- inside a map task: i records of the split are read -/
def MI (fi0 : Nat → Int32) (ar0 : Nat → Nat → Int32) (P B r c0 b : Nat) (sps : List PL) (g : Nat → PL) (i : Nat) (fi : Nat → Int32) (ar : Nat → Nat → Int32) (sps' : List PL) (buf : PL) : Prop := eqF [13, 16, 17, 18] fi0 fi ∧ eqA [14, 15, 19, 20, 21] ar0 ar ∧ fi 16 = nI (c0 + (pr g b i).length) ∧ Bf fi ar buf ∧ buf.length ≤ B ∧ Sp P fi ar sps' ∧ (∃ ext, sps' = sps ++ ext) ∧ 2 * sps'.length + buf.length ≤ 2 * sps.length + i ∧ sps'.flatten.length + buf.length ≤ sps.flatten.length + i ∧ ∀ k o, fv r k o (sps'.flatten ++ buf) = fv r k o (sps.flatten ++ pr g b i)
/-- a map task is done: i records of the split are read and spilled -/
def MD (fi0 : Nat → Int32) (ar0 : Nat → Nat → Int32) (P r c0 b : Nat) (sps : List PL) (g : Nat → PL) (i : Nat) (fi : Nat → Int32) (ar : Nat → Nat → Int32) : Prop := eqF [13, 16, 17, 18] fi0 fi ∧ eqA [14, 15, 19, 20, 21] ar0 ar ∧ fi 16 = nI (c0 + (pr g b i).length) ∧ ∃ ext, Sp P fi ar (sps ++ ext) ∧ (sps ++ ext).length ≤ sps.length + 8 ∧ (sps ++ ext).flatten.length ≤ sps.flatten.length + 16 ∧ ∀ k o, fv r k o (sps ++ ext).flatten = fv r k o (sps.flatten ++ pr g b i)
theorem lp_map_in (hG : mr_Cl K1 cX1_mapSplit 8 none 4 93 Post h ad G) {fi0 : Nat → Int32} {ar0 : Nat → Nat → Int32} {P B M r c0 sp : Nat} {sps : List PL} {g : Nat → PL} (hC : Cf P B M r fi0) (hsp : sp ≤ 3) (h8 : sps.length ≤ 8 * sp) (hE : sps.flatten.length ≤ 16 * sp) (hg : ∀ a, a < 64 → g a = one M (fi0 6) (fi0 7) (fi0 8) (fi0 9) r (ar0 3 a) (ar0 4 a)) {l2 l3 l4 l5 : Value} {up : Nat} (hup : up ≤ 16) (hk : ∀ fi ar sps' buf l7, MI fi0 ar0 P B r c0 (16 * sp) sps g up fi ar sps' buf → G 101 [.ref h, .int (nI sp), l2, l3, l4, l5, .int (nI up), l7] [] fi ar) :
    ∀ (n i : Nat) (fi : Nat → Int32) (ar : Nat → Nat → Int32) (sps' : List PL) (buf : PL), i ≤ up → up < i + n → MI fi0 ar0 P B r c0 (16 * sp) sps g i fi ar sps' buf → G 77 [.ref h, .int (nI sp), l2, l3, l4, l5, .int (nI up), .int (nI i)] [] fi ar := by
  intro n
  induction n with
  | zero => intro i fi ar sps' buf h1 h2; omega
  | succ n ih =>
    intro i fi ar sps' buf h1 h2 hI
    refine mr_iload7 hG dX1_mapSplit_77 ?_
    refine mr_iload6 hG dX1_mapSplit_79 ?_
    show G 81 _ _ _ _
    refine mr_icmp_geN hG 101 dX1_mapSplit_81 (by decide) (by omega) (by omega) (fun c => ?_) (fun c => ?_)
    · have e : i = up := by omega
      subst e
      exact hk fi ar sps' buf _ hI
    · obtain ⟨i1, i2, i3, i4, i5, i6, ⟨ext, i7⟩, i8', i9, i10⟩ := hI
      refine mr_aload0 hG dX1_mapSplit_84 ?_
      refine mr_bipush hG (nI 16) dX1_mapSplit_85 (by decide) ?_
      refine mr_iload1 hG dX1_mapSplit_87 ?_
      refine mr_imulN hG dX1_mapSplit_88 ?_
      refine mr_iload7 hG dX1_mapSplit_89 ?_
      refine mr_iaddN hG dX1_mapSplit_91 ?_
      show G 92 _ _ _ _
      refine mr_callv hG (ct_mapRecord (a := 16 * sp + i) (hC.eq i1 (by decide) (by decide) (by decide) (by decide)) (by omega) i3 i4 i5 i6 (by omega) (by omega)) wd_mapRecord co_mapRecord (by decide) rfl (by decide) dX1_mapSplit_92 ?_
      rintro fi2 ar2 ⟨g1, g2, g3, sps2, buf2, g4, g5, g6, ⟨ext2, g7⟩, g8, g9, g10⟩
      rw [i1 6 (by decide), i1 7 (by decide), i1 8 (by decide), i1 9 (by decide), i2 3 (by decide), i2 4 (by decide), ← hg _ (by omega)] at g3 g10
      refine mr_iincS7 hG dX1_mapSplit_95 ?_
      refine mr_goto hG 77 dX1_mapSplit_98 (by decide) ?_
      show G 77 _ _ _ _
      refine ih (i + 1) fi2 ar2 sps2 buf2 (by omega) (by omega) ⟨i1.tr g1, i2.tr g2, ?_, g4, g5, g6, ⟨ext ++ ext2, by rw [g7, i7, List.append_assoc]⟩, by omega, by omega, fun k o => ?_⟩
      · rw [g3, pr_s, List.length_append, Nat.add_assoc]
      · rw [g10, fv_app, i10, ← fv_app, List.append_assoc]
        rfl
theorem lp_map_at (hG : mr_Cl K1 cX1_mapSplit 8 none 4 93 Post h ad G) {fi0 : Nat → Int32} {ar0 : Nat → Nat → Int32} {P B M r c0 sp sz : Nat} {sps : List PL} {g : Nat → PL} (hC : Cf P B M r fi0) (hsp : sp ≤ 3) (h8 : sps.length ≤ 8 * sp) (hE : sps.flatten.length ≤ 16 * sp) (hg : ∀ a, a < 64 → g a = one M (fi0 6) (fi0 7) (fi0 8) (fi0 9) r (ar0 3 a) (ar0 4 a)) (hsz : ar0 2 sp = nI sz) (hsz16 : sz ≤ 16) (hk : ∀ fi ar, MD fi0 ar0 P r c0 (16 * sp) sps g sz fi ar → Post 0 fi ar) :
    ∀ (a : Nat) (fi : Nat → Int32) (ar : Nat → Nat → Int32) (l6 l7 : Value) (ext : List PL), a ≤ 3 → eqF [13, 16, 17, 18] fi0 fi → eqA [14, 15, 19, 20, 21] ar0 ar → Sp P fi ar (sps ++ ext) → G 24 [.ref h, .int (nI sp), .int (nI sps.length), .int (nI sps.flatten.length), .int (nI c0), .int (nI a), l6, l7] [] fi ar := by
  intro a
  induction a with
  | zero =>
    intro fi ar l6 l7 ext ha hF hA hS
    have hsz2 : ar 2 sp = nI sz := by rw [hA 2 (by decide)]; exact hsz
    refine mr_iload5 hG dX1_mapSplit_24 ?_
    show G 26 _ _ _ _
    refine mr_if_lt hG 118 dX1_mapSplit_26 (by decide) (fun c => absurd c (n_neg (by omega))) (fun c => ?_)
    refine mr_aload0 hG dX1_mapSplit_29 ?_
    refine mr_iload2 hG dX1_mapSplit_30 ?_
    refine f1_put_17 hG dX1_mapSplit_31 ?_
    refine mr_aload0 hG dX1_mapSplit_34 ?_
    refine mr_iload3 hG dX1_mapSplit_35 ?_
    refine f1_put_18 hG dX1_mapSplit_36 ?_
    refine mr_aload0 hG dX1_mapSplit_39 ?_
    refine mr_iload4 hG dX1_mapSplit_40 ?_
    refine f1_put_16 hG dX1_mapSplit_42 ?_
    refine mr_aload0 hG dX1_mapSplit_45 ?_
    refine mr_iconst hG 0 dX1_mapSplit_46 (by decide) ?_
    refine f1_put_13 hG dX1_mapSplit_47 ?_
    refine mr_iload5 hG dX1_mapSplit_50 ?_
    show G 52 _ _ _ _
    refine mr_if_le hG 66 dX1_mapSplit_52 (by decide) (fun c2 => ?_) (fun c2 => absurd (show nI 0 ≤ 0 by decide) c2)
    refine mr_aload0 hG dX1_mapSplit_66 ?_
    refine f1_get_2 hG dX1_mapSplit_67 ?_
    refine mr_iload1 hG dX1_mapSplit_70 ?_
    refine f1_ld_2 hG dX1_mapSplit_71 sp rfl (by omega) ?_
    refine mr_top (hsz2) ?_
    refine mr_istore6 hG dX1_mapSplit_72 ?_
    refine mr_iconst hG 0 dX1_mapSplit_74 (by decide) ?_
    refine mr_istore7 hG dX1_mapSplit_75 ?_
    show G 77 _ _ _ _
    refine lp_map_in hG (c0 := c0) hC hsp h8 hE hg (up := sz) hsz16 ?_ (sz + 1) 0 _ ar sps [] (by omega) (by omega) ⟨eqF.up (eqF.up (eqF.up (eqF.up hF (by decide)) (by decide)) (by decide)) (by decide), hA, ?_, ⟨up_s, hold_nil, fun x hx => by simp at hx⟩, by simp, ?_, ⟨[], by simp⟩, by simp, by simp, fun k o => rfl⟩
    · intro fi2 ar2 sps2 buf2 l7' hI
      obtain ⟨i1, i2, i3, i4, i5, i6, ⟨ext2, i7⟩, i8', i9, i10⟩ := hI
      obtain ⟨⟨hP, hP1, hP4⟩, ⟨hB1, hB2, hB8⟩, ⟨hM, hM1, hM16⟩, hr, hr4⟩ := hC.eq i1 (by decide) (by decide) (by decide) (by decide)
      obtain ⟨b1, b2, b3⟩ := i4
      refine mr_aload0 hG dX1_mapSplit_101 ?_
      refine f1_get_13 hG dX1_mapSplit_102 ?_
      refine mr_top (b1) ?_
      show G 105 _ _ _ _
      have done : ∀ fi3 ar3, MD fi0 ar0 P r c0 (16 * sp) sps g sz fi3 ar3 → G 112 [.ref h, .int (nI sp), .int (nI sps.length), .int (nI sps.flatten.length), .int (nI c0), .int (nI 0), .int (nI sz), l7'] [] fi3 ar3 := by
        intro fi3 ar3 hD
        refine mr_iinc5 hG dX1_mapSplit_112 (v := -1) (by decide) ?_
        refine mr_goto hG 24 dX1_mapSplit_115 (by decide) ?_
        show G 24 _ _ _ _
        refine mr_iload5 hG dX1_mapSplit_24 ?_
        show G 26 _ _ _ _
        refine mr_if_lt hG 118 dX1_mapSplit_26 (by decide) (fun c => ?_) (fun c => absurd (show (-1 : Int32) < 0 by decide) c)
        exact mr_vret hG dX1_mapSplit_118 (hk fi3 ar3 hD)
      refine mr_if_le hG 112 dX1_mapSplit_105 (by decide) (fun c3 => ?_) (fun c3 => ?_)
      · have e0 : buf2 = [] := by
          cases buf2 with
          | nil => rfl
          | cons x l => exact absurd c3 (nI_nle (by simp) (by omega))
        subst e0
        subst i7
        simp only [List.append_nil, List.length_nil, Nat.add_zero] at i8' i9 i10
        exact done fi2 ar2 ⟨i1, i2, i3, ext2, i6, by omega, by omega, i10⟩
      · have e0 : buf2 ≠ [] := by
          intro e
          rw [e] at c3
          exact c3 (by decide)
        have hl1 : 1 ≤ buf2.length := by
          cases buf2 with
          | nil => exact absurd rfl e0
          | cons x l => simp
        refine mr_aload0 hG dX1_mapSplit_108 ?_
        show G 109 _ _ _ _
        refine mr_callv hG (ct_spill hP hP1 hP4 hr hr4 b1 e0 (by omega) b2 b3 i6 (by omega) (by omega)) wd_spill co_spill (by decide) rfl (by decide) dX1_mapSplit_109 ?_
        rintro fi3 ar3 ⟨g1, g2, g3, l', g4, g5, g6⟩
        subst i7
        have hfl : (sps ++ ext2 ++ [l']).flatten = (sps ++ ext2).flatten ++ l' := by simp
        refine done fi3 ar3 ⟨i1.tr (g1.wk (by decide)), i2.tr g2, by rw [g1 16 (by decide)]; exact i3, ext2 ++ [l'], ?_, ?_, ?_, ?_⟩
        · rw [← List.append_assoc]; exact g6
        · rw [← List.append_assoc, List.length_append (bs := [l'])]; simp only [List.length_singleton]; omega
        · rw [← List.append_assoc, hfl, List.length_append]; omega
        · intro k o
          rw [← List.append_assoc, hfl, fv_app, g5, ← fv_app]
          exact i10 k o
    · rw [up_n (by decide), up_s]; rfl
    · exact hS.cut (by rw [up_n (by decide), up_n (by decide), up_n (by decide), up_s]) (by rw [up_n (by decide), up_n (by decide), up_s])
  | succ a ih =>
    intro fi ar l6 l7 ext ha hF hA hS
    have hsz2 : ar 2 sp = nI sz := by rw [hA 2 (by decide)]; exact hsz
    refine mr_iload5 hG dX1_mapSplit_24 ?_
    show G 26 _ _ _ _
    refine mr_if_lt hG 118 dX1_mapSplit_26 (by decide) (fun c => absurd c (n_neg (by omega))) (fun c => ?_)
    refine mr_aload0 hG dX1_mapSplit_29 ?_
    refine mr_iload2 hG dX1_mapSplit_30 ?_
    refine f1_put_17 hG dX1_mapSplit_31 ?_
    refine mr_aload0 hG dX1_mapSplit_34 ?_
    refine mr_iload3 hG dX1_mapSplit_35 ?_
    refine f1_put_18 hG dX1_mapSplit_36 ?_
    refine mr_aload0 hG dX1_mapSplit_39 ?_
    refine mr_iload4 hG dX1_mapSplit_40 ?_
    refine f1_put_16 hG dX1_mapSplit_42 ?_
    refine mr_aload0 hG dX1_mapSplit_45 ?_
    refine mr_iconst hG 0 dX1_mapSplit_46 (by decide) ?_
    refine f1_put_13 hG dX1_mapSplit_47 ?_
    refine mr_iload5 hG dX1_mapSplit_50 ?_
    show G 52 _ _ _ _
    refine mr_if_le hG 66 dX1_mapSplit_52 (by decide) (fun c2 => absurd c2 (nI_nle (by omega) (by omega))) (fun c2 => ?_)
    refine mr_aload0 hG dX1_mapSplit_55 ?_
    refine f1_get_2 hG dX1_mapSplit_56 ?_
    refine mr_iload1 hG dX1_mapSplit_59 ?_
    refine f1_ld_2 hG dX1_mapSplit_60 sp rfl (by omega) ?_
    refine mr_top (hsz2) ?_
    refine mr_iconst hG 2 dX1_mapSplit_61 (by decide) ?_
    refine mr_idivN hG dX1_mapSplit_62 (by omega) (by omega) (by omega) ?_
    refine mr_goto hG 72 dX1_mapSplit_63 (by decide) ?_
    show G 72 _ _ _ _
    refine mr_istore6 hG dX1_mapSplit_72 ?_
    refine mr_iconst hG 0 dX1_mapSplit_74 (by decide) ?_
    refine mr_istore7 hG dX1_mapSplit_75 ?_
    show G 77 _ _ _ _
    refine lp_map_in hG (c0 := c0) hC hsp h8 hE hg (up := sz / 2) (by omega) ?_ (sz + 1) 0 _ ar sps [] (by omega) (by omega) ⟨eqF.up (eqF.up (eqF.up (eqF.up hF (by decide)) (by decide)) (by decide)) (by decide), hA, ?_, ⟨up_s, hold_nil, fun x hx => by simp at hx⟩, by simp, ?_, ⟨[], by simp⟩, by simp, by simp, fun k o => rfl⟩
    · intro fi2 ar2 sps2 buf2 l7' hI
      obtain ⟨i1, i2, i3, i4, i5, i6, ⟨ext2, i7⟩, i8', i9, i10⟩ := hI
      obtain ⟨⟨hP, hP1, hP4⟩, ⟨hB1, hB2, hB8⟩, ⟨hM, hM1, hM16⟩, hr, hr4⟩ := hC.eq i1 (by decide) (by decide) (by decide) (by decide)
      obtain ⟨b1, b2, b3⟩ := i4
      refine mr_aload0 hG dX1_mapSplit_101 ?_
      refine f1_get_13 hG dX1_mapSplit_102 ?_
      refine mr_top (b1) ?_
      show G 105 _ _ _ _
      have done : ∀ fi3 ar3 ext3, eqF [13, 16, 17, 18] fi0 fi3 → eqA [14, 15, 19, 20, 21] ar0 ar3 → Sp P fi3 ar3 (sps ++ ext3) → G 112 [.ref h, .int (nI sp), .int (nI sps.length), .int (nI sps.flatten.length), .int (nI c0), .int (nI (a + 1)), .int (nI (sz / 2)), l7'] [] fi3 ar3 := by
        intro fi3 ar3 ext3 d1 d2 d3
        refine mr_iinc5 hG dX1_mapSplit_112 (v := nI a) (pk_m1 a) ?_
        refine mr_goto hG 24 dX1_mapSplit_115 (by decide) ?_
        show G 24 _ _ _ _
        exact ih fi3 ar3 _ _ ext3 (by omega) d1 d2 d3
      refine mr_if_le hG 112 dX1_mapSplit_105 (by decide) (fun c3 => ?_) (fun c3 => ?_)
      · subst i7
        exact done fi2 ar2 ext2 i1 i2 i6
      · have e0 : buf2 ≠ [] := by
          intro e
          rw [e] at c3
          exact c3 (by decide)
        have hl1 : 1 ≤ buf2.length := by
          cases buf2 with
          | nil => exact absurd rfl e0
          | cons x l => simp
        refine mr_aload0 hG dX1_mapSplit_108 ?_
        show G 109 _ _ _ _
        refine mr_callv hG (ct_spill hP hP1 hP4 hr hr4 b1 e0 (by omega) b2 b3 i6 (by omega) (by omega)) wd_spill co_spill (by decide) rfl (by decide) dX1_mapSplit_109 ?_
        rintro fi3 ar3 ⟨g1, g2, g3, l', g4, g5, g6⟩
        subst i7
        exact done fi3 ar3 (ext2 ++ [l']) (i1.tr (g1.wk (by decide))) (i2.tr g2) (by rw [← List.append_assoc]; exact g6)
    · rw [up_n (by decide), up_s]; rfl
    · exact hS.cut (by rw [up_n (by decide), up_n (by decide), up_n (by decide), up_s]) (by rw [up_n (by decide), up_n (by decide), up_s])
theorem ct_mapSplit {fi : Nat → Int32} {ar : Nat → Nat → Int32} {P B M r c0 sp sz mf : Nat} {sps : List PL} {g : Nat → PL} (hC : Cf P B M r fi) (hc : fi 16 = nI c0) (hsp : sp ≤ 3) (hS : Sp P fi ar sps) (h8 : sps.length ≤ 8 * sp) (hE : sps.flatten.length ≤ 16 * sp) (hg : ∀ a, a < 64 → g a = one M (fi 6) (fi 7) (fi 8) (fi 9) r (ar 3 a) (ar 4 a)) (hsz : ar 2 sp = nI sz) (hsz16 : sz ≤ 16) (hmf : ar 10 sp = nI mf) (hmf3 : mf ≤ 3) : mr_Con K1 yX1_mapSplit cX1_mapSplit 8 none 4 93 [.int (nI sp)] fi ar (fun _ fi' ar' => MD fi ar P r c0 (16 * sp) sps g sz fi' ar') := by
  refine mr_con ok1 (by decide) rfl 6 rfl rfl ?_
  intro h ad G hG
  show G 0 [.ref h, .int (nI sp), .null, .null, .null, .null, .null, .null] [] fi ar
  refine mr_aload0 hG dX1_mapSplit_0 ?_
  refine f1_get_17 hG dX1_mapSplit_1 ?_
  refine mr_top (hS.1) ?_
  refine mr_istore2 hG dX1_mapSplit_4 ?_
  refine mr_aload0 hG dX1_mapSplit_5 ?_
  refine f1_get_18 hG dX1_mapSplit_6 ?_
  refine mr_top (hS.2.1) ?_
  refine mr_istore3 hG dX1_mapSplit_9 ?_
  refine mr_aload0 hG dX1_mapSplit_10 ?_
  refine f1_get_16 hG dX1_mapSplit_11 ?_
  refine mr_top (hc) ?_
  refine mr_istore4 hG dX1_mapSplit_14 ?_
  refine mr_aload0 hG dX1_mapSplit_16 ?_
  refine f1_get_10 hG dX1_mapSplit_17 ?_
  refine mr_iload1 hG dX1_mapSplit_20 ?_
  refine f1_ld_10 hG dX1_mapSplit_21 sp rfl (by omega) ?_
  refine mr_top (hmf) ?_
  refine mr_istore5 hG dX1_mapSplit_22 ?_
  show G 24 _ _ _ _
  exact lp_map_at hG hC hsp h8 hE hg hsz hsz16 (fun fi2 ar2 hD => hD) mf fi ar _ _ [] hmf3 eqF.rf eqA.rf (by rw [List.append_nil]; exact hS)
end MpS
end
section
set_option maxRecDepth 100000
set_option linter.unusedVariables false
/-! places in sorted lists -/
theorem srt_split {P t : Nat} {l : PL} (hs : srt P l) : ∃ D C : PL, l = D ++ C ∧ (∀ x ∈ D, rk P x.1 < t) ∧ (∀ x ∈ C, t ≤ rk P x.1) := by
  induction l with
  | nil => exact ⟨[], [], rfl, fun x hx => by simp at hx, fun x hx => by simp at hx⟩
  | cons e l ih =>
    by_cases h : rk P e.1 < t
    · obtain ⟨D, C, h1, h2, h3⟩ := ih (List.pairwise_cons.mp hs).2
      refine ⟨e :: D, C, by rw [h1]; rfl, fun x hx => ?_, h3⟩
      rcases List.mem_cons.mp hx with g | g
      · rw [g]; exact h
      · exact h2 x g
    · exact ⟨[], e :: l, rfl, fun x hx => by simp at hx, srt_ge hs (by omega)⟩
theorem pos_iff {P t j : Nat} {l : PL} {e : Nat × Int32} (hs : srt P l) (hj : l[j]? = some e) : j < pos P l t ↔ rk P e.1 < t := by
  obtain ⟨D, C, h1, h2, h3⟩ := srt_split (t := t) hs
  subst h1
  rw [pos_split h2 h3]
  by_cases h : j < D.length
  · rw [List.getElem?_append_left h] at hj
    exact ⟨fun _ => h2 e (List.mem_of_getElem? hj), fun _ => h⟩
  · rw [List.getElem?_append_right (by omega)] at hj
    have := h3 e (List.mem_of_getElem? hj)
    omega
theorem pos_le {P t : Nat} {l : PL} : pos P l t ≤ l.length := List.countP_le_length
theorem pos_eq {P t T : Nat} {l : PL} (h : t ≤ T) (he : ∀ e ∈ l, t ≤ rk P e.1 → T ≤ rk P e.1) : pos P l t = pos P l T := by
  unfold pos
  apply List.countP_congr
  intro e hm
  have := he e hm
  simp only [decide_eq_true_eq]
  omega
theorem pos_win {P t T : Nat} {l : PL} (hs : srt P l) (h : t ≤ T) : (pos P l t = pos P l T ∧ ∀ e ∈ l, t ≤ rk P e.1 → T ≤ rk P e.1) ∨ (pos P l t < pos P l T ∧ ∃ k v, l[pos P l t]? = some (k, v) ∧ t ≤ rk P k ∧ rk P k < T ∧ ∀ e ∈ l, t ≤ rk P e.1 → rk P k ≤ rk P e.1) := by
  by_cases hw : ∀ e ∈ l, t ≤ rk P e.1 → T ≤ rk P e.1
  · exact Or.inl ⟨pos_eq h hw, hw⟩
  · right
    obtain ⟨D, C, h1, h2, h3⟩ := srt_split (t := t) hs
    have hp : pos P l t = D.length := by rw [h1]; exact pos_split h2 h3
    cases C with
    | nil =>
      exfalso
      apply hw
      intro e he hte
      rw [h1, List.append_nil] at he
      have := h2 e he
      omega
    | cons x C =>
      obtain ⟨k, v⟩ := x
      have hx : l[D.length]? = some (k, v) := by rw [h1, List.getElem?_append_right (by omega), Nat.sub_self]; rfl
      have hsC : srt P ((k, v) :: C) := srt_right (D := D) (by rw [← h1]; exact hs)
      have hmin : ∀ e ∈ l, t ≤ rk P e.1 → rk P k ≤ rk P e.1 := by
        intro e he hte
        rw [h1] at he
        rcases List.mem_append.mp he with g | g
        · have := h2 e g; omega
        · exact srt_ge hsC (Nat.le_refl _) e g
      have hkT : rk P k < T := by
        rcases Nat.lt_or_ge (rk P k) T with g | g
        · exact g
        · exfalso
          apply hw
          intro e he hte
          exact Nat.le_trans g (hmin e he hte)
      refine ⟨?_, k, v, by rw [hp]; exact hx, h3 (k, v) List.mem_cons_self, hkT, hmin⟩
      rw [hp]
      exact (pos_iff hs hx).mpr hkT
/-! the heads -/
def base (sps : List PL) (s : Nat) : Nat := (sps.take s).flatten.length
def Hd (P : Nat) (ar : Nat → Nat → Int32) (sps : List PL) (p t : Nat) : Prop := ∀ s l, sps[s]? = some l → ar 22 s = nI (base sps s + pos P l t) ∧ ar 23 s = nI (base sps s + pos P l (16 * (p + 1)))
theorem base_le {sps : List PL} {s : Nat} {l : PL} (h : sps[s]? = some l) : base sps s + l.length ≤ sps.flatten.length := by
  have e : sps = sps.take s ++ l :: sps.drop (s + 1) := by
    obtain ⟨hlt, he⟩ := List.getElem?_eq_some_iff.mp h
    rw [← he, List.getElem_cons_drop, List.take_append_drop]
  unfold base
  have e2 : sps.flatten.length = (sps.take s).flatten.length + (l.length + (sps.drop (s + 1)).flatten.length) := by
    rw [congrArg List.flatten e, List.flatten_append, List.flatten_cons, List.length_append, List.length_append]
  omega
theorem base_s {sps : List PL} {s : Nat} {l : PL} (h : sps[s]? = some l) : sps.take (s + 1) = sps.take s ++ [l] := by
  rw [List.take_add_one, h]
  rfl
theorem Sp.hold {P : Nat} {fi : Nat → Int32} {ar : Nat → Nat → Int32} {sps : List PL} (h : Sp P fi ar sps) {s : Nat} {l : PL} (hl : sps[s]? = some l) : hold (ar 19) (ar 20) (base sps s) l := by
  have e : sps = sps.take s ++ l :: sps.drop (s + 1) := by
    obtain ⟨hlt, he⟩ := List.getElem?_eq_some_iff.mp hl
    rw [← he, List.getElem_cons_drop, List.take_append_drop]
  have h3 := h.2.2.1
  rw [congrArg List.flatten e, List.flatten_append, List.flatten_cons, hold_app, hold_app, Nat.zero_add] at h3
  exact h3.2.1
theorem Sp.get {P : Nat} {fi : Nat → Int32} {ar : Nat → Nat → Int32} {sps : List PL} (h : Sp P fi ar sps) {s : Nat} {l : PL} (hl : sps[s]? = some l) : srt P l ∧ ∀ e ∈ l, e.1 < 16 := h.2.2.2.1 l (List.mem_of_getElem? hl)
section Red
variable {Post : mr_PT} {h : Nat} {ad : Nat → Nat} {G : mr_GT} {fi : Nat → Int32}
theorem lp_open (hG : mr_Cl K1 cX1_openSpills 3 none 0 0 Post h ad G) {P p : Nat} (hp : p ≤ 3) {sps : List PL} (h32 : sps.length ≤ 32) (h64 : sps.flatten.length ≤ 64) :
    ∀ (n s : Nat) (ar : Nat → Nat → Int32), s ≤ sps.length → sps.length < s + n → Sp P fi ar sps → (∀ s' l, s' < s → sps[s']? = some l → ar 22 s' = nI (base sps s' + pos P l (16 * p)) ∧ ar 23 s' = nI (base sps s' + pos P l (16 * (p + 1)))) → (∀ ar', eqA [22, 23] ar ar' → Hd P ar' sps p (16 * p) → Post 0 fi ar') → G 2 [.ref h, .int (nI p), .int (nI s)] [] fi ar := by
  intro n
  induction n with
  | zero => intro s ar h1 h2; omega
  | succ n ih =>
    intro s ar h1 h2 hS hH hk
    refine mr_iload2 hG dX1_openSpills_2 ?_
    refine mr_aload0 hG dX1_openSpills_3 ?_
    refine f1_get_17 hG dX1_openSpills_4 ?_
    refine mr_top (hS.1) ?_
    show G 7 _ _ _ _
    refine mr_icmp_geN hG 50 dX1_openSpills_7 (by decide) (by omega) (by omega) (fun c => ?_) (fun c => ?_)
    · exact mr_vret hG dX1_openSpills_50 (hk ar eqA.rf (fun s' l hl => hH s' l (by have := (List.getElem?_eq_some_iff.mp hl).1; omega) hl))
    · obtain ⟨l, hl⟩ : ∃ l, sps[s]? = some l := ⟨_, List.getElem?_eq_getElem c⟩
      have hb := base_le hl
      have p1 : pos P l (16 * p) ≤ l.length := pos_le
      have p2 : pos P l (16 * (p + 1)) ≤ l.length := pos_le
      have g1 : ar 21 (5 * s + p) = nI (base sps s + pos P l (16 * p)) := hS.2.2.2.2 s l hl p (by omega)
      have g2 : ar 21 (5 * s + p + 1) = nI (base sps s + pos P l (16 * (p + 1))) := hS.2.2.2.2 s l hl (p + 1) (by omega)
      refine mr_aload0 hG dX1_openSpills_10 ?_
      refine f1_get_22 hG dX1_openSpills_11 ?_
      refine mr_iload2 hG dX1_openSpills_14 ?_
      refine mr_aload0 hG dX1_openSpills_15 ?_
      refine f1_get_21 hG dX1_openSpills_16 ?_
      refine mr_iconst hG 5 dX1_openSpills_19 (by decide) ?_
      refine mr_iload2 hG dX1_openSpills_20 ?_
      refine mr_imulN hG dX1_openSpills_21 ?_
      refine mr_iload1 hG dX1_openSpills_22 ?_
      refine mr_iaddN hG dX1_openSpills_23 ?_
      refine f1_ld_21 hG dX1_openSpills_24 (5 * s + p) rfl (by omega) ?_
      refine mr_top (g1) ?_
      refine f1_st_22 hG dX1_openSpills_25 s rfl (by omega) (nar_b (by omega)) ?_
      show G 26 _ _ _ _
      refine mr_aload0 hG dX1_openSpills_26 ?_
      refine f1_get_23 hG dX1_openSpills_27 ?_
      refine mr_iload2 hG dX1_openSpills_30 ?_
      refine mr_aload0 hG dX1_openSpills_31 ?_
      refine f1_get_21 hG dX1_openSpills_32 ?_
      refine mr_iconst hG 5 dX1_openSpills_35 (by decide) ?_
      refine mr_iload2 hG dX1_openSpills_36 ?_
      refine mr_imulN hG dX1_openSpills_37 ?_
      refine mr_iload1 hG dX1_openSpills_38 ?_
      refine mr_iaddN hG dX1_openSpills_39 ?_
      refine mr_iconst hG 1 dX1_openSpills_40 (by decide) ?_
      refine mr_iaddN hG dX1_openSpills_41 ?_
      refine f1_ld_21 hG dX1_openSpills_42 (5 * s + p + 1) rfl (by omega) ?_
      refine mr_top ((by rw [ua_o (by decide)]; exact g2 : _ = nI (base sps s + pos P l (16 * (p + 1))))) ?_
      refine f1_st_23 hG dX1_openSpills_43 s rfl (by omega) (nar_b (by omega)) ?_
      refine mr_iincS2 hG dX1_openSpills_44 ?_
      refine mr_goto hG 2 dX1_openSpills_47 (by decide) ?_
      show G 2 _ _ _ _
      refine ih (s + 1) _ (by omega) (by omega) (hS.eq rfl rfl (by rw [ua_o (by decide), ua_o (by decide)]) (by rw [ua_o (by decide), ua_o (by decide)]) (by rw [ua_o (by decide), ua_o (by decide)])) ?_ ?_
      · intro s' l' hs' hl'
        by_cases e : s' = s
        · subst e
          cases hl.symm.trans hl'
          exact ⟨by rw [ua_o (by decide), ua_s], by rw [ua_s]⟩
        · rw [ua_o (by decide), ua_n e, ua_n e, ua_o (by decide)]
          exact hH s' l' (by omega) hl'
      · intro ar' e1 e2
        exact hk ar' (eqA.tr (eqA.up (eqA.up eqA.rf (by decide)) (by decide)) e1) e2
theorem ct_openSpills {ar : Nat → Nat → Int32} {P p : Nat} (hp : p ≤ 3) {sps : List PL} (h32 : sps.length ≤ 32) (h64 : sps.flatten.length ≤ 64) (hS : Sp P fi ar sps) : mr_Con K1 yX1_openSpills cX1_openSpills 3 none 0 0 [.int (nI p)] fi ar (fun _ fi' ar' => fi' = fi ∧ eqA [22, 23] ar ar' ∧ Hd P ar' sps p (16 * p)) := by
  refine mr_con ok1 (by decide) rfl 1 rfl rfl ?_
  intro h ad G hG
  show G 0 [.ref h, .int (nI p), .null] [] fi ar
  refine mr_iconst hG 0 dX1_openSpills_0 (by decide) ?_
  refine mr_istore2 hG dX1_openSpills_1 ?_
  show G 2 _ _ _ _
  exact lp_open hG hp h32 h64 (sps.length + 1) 0 ar (by omega) (by omega) hS (fun s' l hs' => by omega) (fun ar' e1 e2 => ⟨rfl, e1, e2⟩)
/-- what leastHead finds: the least key of rank t or more, under T -/
def LH (P : Nat) (sps : List PL) (t T : Nat) (x : Int32) : Prop := (x = -1 ∧ ∀ l ∈ sps, ∀ e ∈ l, t ≤ rk P e.1 → T ≤ rk P e.1) ∨ ∃ k, x = nI k ∧ k < 16 ∧ t ≤ rk P k ∧ rk P k < T ∧ (∃ l ∈ sps, ∃ e ∈ l, e.1 = k) ∧ ∀ l ∈ sps, ∀ e ∈ l, t ≤ rk P e.1 → rk P k ≤ rk P e.1
theorem LH.keep {P t T : Nat} {sps : List PL} {l : PL} {x : Int32} (h : LH P sps t T x) (hl : ∀ e ∈ l, t ≤ rk P e.1 → (∀ k, x = nI k → k < 16 → rk P k < T → rk P k ≤ rk P e.1) ∧ (x = -1 → T ≤ rk P e.1)) : LH P (sps ++ [l]) t T x := by
  rcases h with ⟨h1, h2⟩ | ⟨k, h1, h2, h3, h4, ⟨l1, h5, e1, h6, h7⟩, h8⟩
  · refine Or.inl ⟨h1, fun l' hl' e he hte => ?_⟩
    rcases List.mem_append.mp hl' with g | g
    · exact h2 l' g e he hte
    · rw [List.mem_singleton.mp g] at he
      exact (hl e he hte).2 h1
  · refine Or.inr ⟨k, h1, h2, h3, h4, ⟨l1, List.mem_append_left _ h5, e1, h6, h7⟩, fun l' hl' e he hte => ?_⟩
    rcases List.mem_append.mp hl' with g | g
    · exact h8 l' g e he hte
    · rw [List.mem_singleton.mp g] at he
      exact (hl e he hte).1 k h1 h2 h4
theorem LH.take {P t T k : Nat} {v : Int32} {sps : List PL} {l : PL} {x : Int32} (h : LH P sps t T x) (hk : k < 16) (h1 : t ≤ rk P k) (h2 : rk P k < T) (hm : (k, v) ∈ l) (hmin : ∀ e ∈ l, t ≤ rk P e.1 → rk P k ≤ rk P e.1) (hx : ∀ q, x = nI q → q < 16 → rk P q < T → t ≤ rk P q → rk P k ≤ rk P q) : LH P (sps ++ [l]) t T (nI k) := by
  refine Or.inr ⟨k, rfl, hk, h1, h2, ⟨l, by simp, (k, v), hm, rfl⟩, fun l' hl' e he hte => ?_⟩
  rcases List.mem_append.mp hl' with g | g
  · rcases h with ⟨g1, g2⟩ | ⟨q, g1, g2, g3, g4, -, g5⟩
    · have := g2 l' g e he hte; omega
    · exact Nat.le_trans (hx q g1 g2 g4 g3) (g5 l' g e he hte)
  · rw [List.mem_singleton.mp g] at he
    exact hmin e he hte
theorem lp_least (hG : mr_Cl K1 cX1_leastHead 4 (some .int) 0 0 Post h ad G) {ar : Nat → Nat → Int32} {P p t : Nat} (ht1 : 16 * p ≤ t) (ht2 : t ≤ 16 * (p + 1)) {sps : List PL} (h32 : sps.length ≤ 32) (h64 : sps.flatten.length ≤ 64) (hS : Sp P fi ar sps) (hH : Hd P ar sps p t) (hk : ∀ x, LH P sps t (16 * (p + 1)) x → Post x fi ar) :
    ∀ (n s : Nat) (x : Int32) (l3 : Value), s ≤ sps.length → sps.length < s + n → LH P (sps.take s) t (16 * (p + 1)) x → G 4 [.ref h, .int x, .int (nI s), l3] [] fi ar := by
  intro n
  induction n with
  | zero => intro s x l3 h1 h2; omega
  | succ n ih =>
    intro s x l3 h1 h2 hL
    refine mr_iload2 hG dX1_leastHead_4 ?_
    refine mr_aload0 hG dX1_leastHead_5 ?_
    refine f1_get_17 hG dX1_leastHead_6 ?_
    refine mr_top (hS.1) ?_
    show G 9 _ _ _ _
    refine mr_icmp_geN hG 59 dX1_leastHead_9 (by decide) (by omega) (by omega) (fun c => ?_) (fun c => ?_)
    · have e : s = sps.length := by omega
      subst e
      rw [List.take_length] at hL
      refine mr_iload1 hG dX1_leastHead_59 ?_
      show G 60 _ _ _ _
      exact mr_iret hG dX1_leastHead_60 (hk x hL)
    · obtain ⟨l, hl⟩ : ∃ l, sps[s]? = some l := ⟨_, List.getElem?_eq_getElem c⟩
      have hb := base_le hl
      have p1 : pos P l t ≤ l.length := pos_le
      have p2 : pos P l (16 * (p + 1)) ≤ l.length := pos_le
      obtain ⟨g1, g2⟩ := hH s l hl
      obtain ⟨hsrt, h16⟩ := hS.get hl
      refine mr_aload0 hG dX1_leastHead_12 ?_
      refine f1_get_22 hG dX1_leastHead_13 ?_
      refine mr_iload2 hG dX1_leastHead_16 ?_
      refine f1_ld_22 hG dX1_leastHead_17 s rfl (by omega) ?_
      refine mr_top (g1) ?_
      refine mr_aload0 hG dX1_leastHead_18 ?_
      refine f1_get_23 hG dX1_leastHead_19 ?_
      refine mr_iload2 hG dX1_leastHead_22 ?_
      refine f1_ld_23 hG dX1_leastHead_23 s rfl (by omega) ?_
      refine mr_top (g2) ?_
      show G 24 _ _ _ _
      have next : ∀ (y : Int32) (l3' : Value), LH P (sps.take s ++ [l]) t (16 * (p + 1)) y → G 53 [.ref h, .int y, .int (nI s), l3'] [] fi ar := by
        intro y l3' hy
        refine mr_iincS2 hG dX1_leastHead_53 ?_
        refine mr_goto hG 4 dX1_leastHead_56 (by decide) ?_
        show G 4 _ _ _ _
        exact ih (s + 1) y l3' (by omega) (by omega) (by rw [base_s hl]; exact hy)
      rcases pos_win hsrt ht2 with ⟨w1, w2⟩ | ⟨w1, k, v, w2, w3, w4, w5⟩
      · refine mr_icmp_neN hG 30 dX1_leastHead_24 (by decide) (by omega) (by omega) (fun c2 => by omega) (fun c2 => ?_)
        refine mr_goto hG 53 dX1_leastHead_27 (by decide) ?_
        show G 53 _ _ _ _
        refine next x l3 (hL.keep (fun e he hte => ⟨fun k _ _ hkT => ?_, fun _ => w2 e he hte⟩))
        have := w2 e he hte
        omega
      · refine mr_icmp_neN hG 30 dX1_leastHead_24 (by decide) (by omega) (by omega) (fun c2 => ?_) (fun c2 => by omega)
        have hkey := ((hS.hold hl) _ k v w2).1
        have hk16 : k < 16 := h16 (k, v) (List.mem_of_getElem? w2)
        have hmem : (k, v) ∈ l := List.mem_of_getElem? w2
        refine mr_aload0 hG dX1_leastHead_30 ?_
        refine f1_get_19 hG dX1_leastHead_31 ?_
        refine mr_aload0 hG dX1_leastHead_34 ?_
        refine f1_get_22 hG dX1_leastHead_35 ?_
        refine mr_iload2 hG dX1_leastHead_38 ?_
        refine f1_ld_22 hG dX1_leastHead_39 s rfl (by omega) ?_
        refine mr_top (g1) ?_
        refine f1_ld_19 hG dX1_leastHead_40 (base sps s + pos P l t) rfl (by omega) ?_
        refine mr_top (hkey) ?_
        refine mr_istore3 hG dX1_leastHead_41 ?_
        refine mr_iload1 hG dX1_leastHead_42 ?_
        show G 43 _ _ _ _
        have hrk : ∀ q, q < 16 → t ≤ rk P q → rk P q < 16 * (p + 1) → rk P q = 16 * p + q := by
          intro q hq g3 g4
          unfold rk at *
          omega
        refine mr_if_lt hG 51 dX1_leastHead_43 (by decide) (fun c3 => ?_) (fun c3 => ?_)
        · refine mr_iload3 hG dX1_leastHead_51 ?_
          refine mr_istore1 hG dX1_leastHead_52 ?_
          show G 53 _ _ _ _
          refine next (nI k) _ (hL.take hk16 w3 w4 hmem w5 (fun q hq1 hq2 hq3 hq4 => ?_))
          rw [hq1] at c3
          exact absurd c3 (n_neg (by omega))
        · rcases hL with ⟨y1, y2⟩ | ⟨q, y1, y2, y3, y4, y5⟩
          · rw [y1] at c3
            exact absurd (show (-1 : Int32) < 0 by decide) c3
          · subst y1
            have r1 := hrk q y2 y3 y4
            have r2 := hrk k hk16 w3 w4
            refine mr_iload3 hG dX1_leastHead_46 ?_
            refine mr_iload1 hG dX1_leastHead_47 ?_
            show G 48 _ _ _ _
            refine mr_icmp_geN hG 53 dX1_leastHead_48 (by decide) (by omega) (by omega) (fun c4 => ?_) (fun c4 => ?_)
            · refine next (nI q) _ (LH.keep (Or.inr ⟨q, rfl, y2, y3, y4, y5⟩) (fun e he hte => ⟨fun q' hq' _ _ => ?_, fun e9 => ?_⟩))
              · have := (nI_eq (by omega) (by omega)).mp hq'
                subst this
                have := w5 e he hte
                omega
              · exfalso
                have := congrArg (fun z => decide (z < (0 : Int32))) e9
                simp only [n_neg (n := q) (by omega), decide_false] at this
                exact absurd this (by decide)
            · refine mr_iload3 hG dX1_leastHead_51 ?_
              refine mr_istore1 hG dX1_leastHead_52 ?_
              show G 53 _ _ _ _
              refine next (nI k) _ (LH.take (Or.inr ⟨q, rfl, y2, y3, y4, y5⟩) hk16 w3 w4 hmem w5 (fun q' hq1 hq2 hq3 hq4 => ?_))
              have := (nI_eq (by omega) (by omega)).mp hq1
              subst this
              omega
theorem ct_leastHead {ar : Nat → Nat → Int32} {P p t : Nat} (ht1 : 16 * p ≤ t) (ht2 : t ≤ 16 * (p + 1)) {sps : List PL} (h32 : sps.length ≤ 32) (h64 : sps.flatten.length ≤ 64) (hS : Sp P fi ar sps) (hH : Hd P ar sps p t) : mr_Con K1 yX1_leastHead cX1_leastHead 4 (some .int) 0 0 [] fi ar (fun x fi' ar' => fi' = fi ∧ ar' = ar ∧ LH P sps t (16 * (p + 1)) x) := by
  refine mr_con ok1 (by decide) rfl 3 rfl rfl ?_
  intro h ad G hG
  show G 0 [.ref h, .null, .null, .null] [] fi ar
  refine mr_iconstm hG (-1) dX1_leastHead_0 (by decide) ?_
  refine mr_istore1 hG dX1_leastHead_1 ?_
  refine mr_iconst hG 0 dX1_leastHead_2 (by decide) ?_
  refine mr_istore2 hG dX1_leastHead_3 ?_
  show G 4 _ _ _ _
  exact lp_least hG ht1 ht2 h32 h64 hS hH (fun x hx => ⟨rfl, rfl, hx⟩) (sps.length + 1) 0 (-1) _ (by omega) (by omega) (Or.inl ⟨rfl, fun l hl => by simp at hl⟩)
end Red
end
section
set_option maxRecDepth 100000
set_option linter.unusedVariables false
/-! reduceGroup -/
/-- a fold's state as the method keeps it: result and 'begun' -/
def ini (r : Nat) : Int32 := if r = 4 then nI 7 else nI 0
def gR (r : Nat) (o : Option Int32) : Int32 := o.getD (ini r)
def gB (o : Option Int32) : Int32 := if o.isSome then nI 1 else nI 0
theorem stp_4 {o : Option Int32} {w : Int32} : stp 4 o w = nI 31 * gR 4 o + w := by
  simp [stp, gR, ini]
theorem stp_n {r : Nat} (hr : r ≠ 4) {w : Int32} : stp r none w = w := by
  simp [stp, hr]
theorem stp_s {r : Nat} (hr : r ≠ 4) {a w : Int32} : stp r (some a) w = comb r a w := by
  simp [stp, hr]
theorem fv_none {r k : Nat} {o : Option Int32} {l : PL} (h : ∀ e ∈ l, e.1 ≠ k) : fv r k o l = o := by
  induction l generalizing o with
  | nil => rfl
  | cons e l ih =>
    rw [fv_cons, if_neg (h e List.mem_cons_self)]
    exact ih (fun x hx => h x (List.mem_cons_of_mem _ hx))
theorem rk_of {P k p : Nat} (hk : k % P = p) : rk P k = 16 * p + k := by
  unfold rk
  omega
section Grp
variable {Post : mr_PT} {h : Nat} {ad : Nat → Nat} {G : mr_GT} {fi : Nat → Int32}
theorem lp_grp_in (hG : mr_Cl K1 cX1_reduceGroup 6 none 1 22 Post h ad G) {P p k r s b lim : Nat} (hr : fi 12 = nI r) (hr4 : r ≤ 4) (hk16 : k < 16) (hkp : k % P = p) (hs32 : s < 32) {l : PL} (hb64 : b + l.length ≤ 64) (hsrt : srt P l) (h16 : ∀ e ∈ l, e.1 < 16) (hlim : lim = pos P l (16 * (p + 1))) :
    ∀ (C D : PL) (o : Option Int32) (ar : Nat → Nat → Int32) (l5 : Value), D ++ C = l → hold (ar 19) (ar 20) b l → ar 22 s = nI (b + D.length) → ar 23 s = nI (b + lim) → (∀ x ∈ D, rk P x.1 < 16 * p + k + 1) → (∀ x ∈ C, 16 * p + k ≤ rk P x.1) →
    (∀ (D' C' : PL) (ar' : Nat → Nat → Int32) (l5' : Value), D' ++ C' = l → (∀ x ∈ D', rk P x.1 < 16 * p + k + 1) → (∀ x ∈ C', 16 * p + k + 1 ≤ rk P x.1) → ar' 22 s = nI (b + D'.length) → (∀ s', s' ≠ s → ar' 22 s' = ar 22 s') → eqA [22] ar ar' → G 129 [.ref h, .int (nI k), .int (gR r (fv r k o C)), .int (gB (fv r k o C)), .int (nI s), l5'] [] fi ar') →
    G 29 [.ref h, .int (nI k), .int (gR r o), .int (gB o), .int (nI s), l5] [] fi ar := by
  intro C
  induction C with
  | nil =>
    intro D o ar l5 hl hH h22 h23 hD hC hk
    have hle : lim ≤ l.length := by rw [hlim]; exact pos_le
    have hdl : D.length = l.length := by rw [← hl]; simp
    refine mr_aload0 hG dX1_reduceGroup_29 ?_
    refine f1_get_22 hG dX1_reduceGroup_30 ?_
    refine mr_iload4 hG dX1_reduceGroup_33 ?_
    refine f1_ld_22 hG dX1_reduceGroup_35 s rfl (by omega) ?_
    refine mr_top (h22) ?_
    refine mr_aload0 hG dX1_reduceGroup_36 ?_
    refine f1_get_23 hG dX1_reduceGroup_37 ?_
    refine mr_iload4 hG dX1_reduceGroup_40 ?_
    refine f1_ld_23 hG dX1_reduceGroup_42 s rfl (by omega) ?_
    refine mr_top (h23) ?_
    show G 43 _ _ _ _
    refine mr_icmp_geN hG 129 dX1_reduceGroup_43 (by decide) (by omega) (by omega) (fun c => ?_) (fun c => by omega)
    exact hk D [] ar l5 hl hD (fun x hx => by simp at hx) h22 (fun _ _ => rfl) eqA.rf
  | cons e C ih =>
    intro D o ar l5 hl hH h22 h23 hD hC hk
    obtain ⟨k', v⟩ := e
    have hle : lim ≤ l.length := by rw [hlim]; exact pos_le
    have hdl : D.length + (C.length + 1) = l.length := by rw [← hl]; simp
    have hx : l[D.length]? = some (k', v) := by rw [← hl, List.getElem?_append_right (by omega), Nat.sub_self]; rfl
    have hm : (k', v) ∈ l := List.mem_of_getElem? hx
    have hk'16 := h16 (k', v) hm
    have hsC : srt P ((k', v) :: C) := srt_right (D := D) (by rw [hl]; exact hsrt)
    have hk'1 : 16 * p + k ≤ rk P k' := hC (k', v) List.mem_cons_self
    obtain ⟨hv1, hv2⟩ := hH _ k' v hx
    have hrkk := rk_of hkp
    have stop : 16 * p + k + 1 ≤ rk P k' → G 129 [.ref h, .int (nI k), .int (gR r o), .int (gB o), .int (nI s), l5] [] fi ar := by
      intro hge
      have hall := srt_ge hsC hge
      have hnone : fv r k o ((k', v) :: C) = o := fv_none (fun e he ee => by
        have := hall e he
        rw [ee] at this
        omega)
      rw [hnone] at hk
      exact hk D ((k', v) :: C) ar l5 hl hD hall h22 (fun _ _ => rfl) eqA.rf
    refine mr_aload0 hG dX1_reduceGroup_29 ?_
    refine f1_get_22 hG dX1_reduceGroup_30 ?_
    refine mr_iload4 hG dX1_reduceGroup_33 ?_
    refine f1_ld_22 hG dX1_reduceGroup_35 s rfl (by omega) ?_
    refine mr_top (h22) ?_
    refine mr_aload0 hG dX1_reduceGroup_36 ?_
    refine f1_get_23 hG dX1_reduceGroup_37 ?_
    refine mr_iload4 hG dX1_reduceGroup_40 ?_
    refine f1_ld_23 hG dX1_reduceGroup_42 s rfl (by omega) ?_
    refine mr_top (h23) ?_
    show G 43 _ _ _ _
    refine mr_icmp_geN hG 129 dX1_reduceGroup_43 (by decide) (by omega) (by omega) (fun c => ?_) (fun c => ?_)
    · refine stop ?_
      have := (pos_iff (t := 16 * (p + 1)) hsrt hx)
      have hk9 : (k', v).1 = k' := rfl
      rw [hk9] at this
      omega
    · refine mr_aload0 hG dX1_reduceGroup_46 ?_
      refine f1_get_19 hG dX1_reduceGroup_47 ?_
      refine mr_aload0 hG dX1_reduceGroup_50 ?_
      refine f1_get_22 hG dX1_reduceGroup_51 ?_
      refine mr_iload4 hG dX1_reduceGroup_54 ?_
      refine f1_ld_22 hG dX1_reduceGroup_56 s rfl (by omega) ?_
      refine mr_top (h22) ?_
      refine f1_ld_19 hG dX1_reduceGroup_57 (b + D.length) rfl (by omega) ?_
      refine mr_top (hv1) ?_
      refine mr_iload1 hG dX1_reduceGroup_58 ?_
      show G 59 _ _ _ _
      refine mr_icmp_neN hG 129 dX1_reduceGroup_59 (by decide) (by omega) (by omega) (fun c2 => ?_) (fun c2 => ?_)
      · refine stop ?_
        rcases Nat.lt_or_ge (rk P k') (16 * p + k + 1) with g | g
        · exfalso
          have e9 : rk P k' = rk P k := by omega
          exact c2 (rk_inj hk'16 hk16 e9)
        · exact g
      · subst c2
        have hfv : fv r k' o ((k', v) :: C) = fv r k' (some (stp r o v)) C := by rw [fv_cons, if_pos rfl]
        rw [hfv] at hk
        have hl2 : D ++ [(k', v)] ++ C = l := by rw [← hl]; simp
        have hl1 : (D ++ [(k', v)]).length = D.length + 1 := by simp
        have fin : ∀ l5', G 114 [.ref h, .int (nI k'), .int (gR r (some (stp r o v))), .int (gB (some (stp r o v))), .int (nI s), l5'] [] fi ar := by
          intro l5'
          refine mr_aload0 hG dX1_reduceGroup_114 ?_
          refine f1_get_22 hG dX1_reduceGroup_115 ?_
          refine mr_iload4 hG dX1_reduceGroup_118 ?_
          refine mr_dup2 hG dX1_reduceGroup_120 rfl rfl ?_
          refine f1_ld_22 hG dX1_reduceGroup_121 s rfl (by omega) ?_
          refine mr_top (h22) ?_
          refine mr_iconst hG 1 dX1_reduceGroup_122 (by decide) ?_
          refine mr_iaddN hG dX1_reduceGroup_123 ?_
          refine mr_i2b hG dX1_reduceGroup_124 (i8 _ (by omega)) ?_
          refine f1_st_22 hG dX1_reduceGroup_125 s rfl (by omega) (nar_b (by omega)) ?_
          refine mr_goto hG 29 dX1_reduceGroup_126 (by decide) ?_
          show G 29 _ _ _ _
          refine ih (D ++ [(k', v)]) (some (stp r o v)) _ l5' hl2 ?_ ?_ ?_ ?_ (fun x hx => hC x (List.mem_cons_of_mem _ hx)) ?_
          · rw [ua_o (by decide), ua_o (by decide)]; exact hH
          · rw [ua_s, hl1]; rfl
          · rw [ua_o (by decide)]; exact h23
          · intro x hx
            rcases List.mem_append.mp hx with g | g
            · exact hD x g
            · rw [List.mem_singleton.mp g]
              show rk P k' < _
              omega
          · intro D' C' ar' l5'' e1 e2 e3 e4 e5 e6
            exact hk D' C' ar' l5'' e1 e2 e3 e4 (fun s' hs' => by rw [e5 s' hs', ua_n hs']) (eqA.tr (eqA.up eqA.rf (by decide)) e6)
        refine mr_aload0 hG dX1_reduceGroup_62 ?_
        refine f1_get_20 hG dX1_reduceGroup_63 ?_
        refine mr_aload0 hG dX1_reduceGroup_66 ?_
        refine f1_get_22 hG dX1_reduceGroup_67 ?_
        refine mr_iload4 hG dX1_reduceGroup_70 ?_
        refine f1_ld_22 hG dX1_reduceGroup_72 s rfl (by omega) ?_
        refine mr_top (h22) ?_
        refine f1_ld_20 hG dX1_reduceGroup_73 (b + D.length) rfl (by omega) ?_
        refine mr_top (hv2) ?_
        refine mr_istore5 hG dX1_reduceGroup_74 ?_
        refine mr_aload0 hG dX1_reduceGroup_76 ?_
        refine f1_get_12 hG dX1_reduceGroup_77 ?_
        refine mr_top (hr) ?_
        refine mr_iconst hG 4 dX1_reduceGroup_80 (by decide) ?_
        show G 81 _ _ _ _
        refine mr_icmp_neN hG 95 dX1_reduceGroup_81 (by decide) (by omega) (by omega) (fun c3 => ?_) (fun c3 => ?_)
        · refine mr_iload3 hG dX1_reduceGroup_95 ?_
          show G 96 _ _ _ _
          refine mr_if_eq hG 109 dX1_reduceGroup_96 (by decide) (fun c4 => ?_) (fun c4 => ?_)
          · have ho : o = none := by
              cases o with
              | none => rfl
              | some a => exact absurd c4 (show ¬ (nI 1 : Int32) = 0 by decide)
            subst ho
            refine mr_iload5 hG dX1_reduceGroup_109 ?_
            refine mr_istore2 hG dX1_reduceGroup_111 ?_
            refine mr_iconst hG 1 dX1_reduceGroup_112 (by decide) ?_
            refine mr_istore3 hG dX1_reduceGroup_113 ?_
            show G 114 _ _ _ _
            have e9 : gR r (some (stp r none v)) = v := stp_n c3
            have key := fin (.int v)
            rw [e9] at key
            exact key
          · obtain ⟨a, ho⟩ : ∃ a, o = some a := by
              cases o with
              | none => exact absurd (show (nI 0 : Int32) = 0 by decide) c4
              | some a => exact ⟨a, rfl⟩
            subst ho
            refine mr_aload0 hG dX1_reduceGroup_99 ?_
            refine mr_iload2 hG dX1_reduceGroup_100 ?_
            refine mr_iload5 hG dX1_reduceGroup_101 ?_
            show G 103 _ _ _ _
            refine mr_calli hG (ct_combined (a := gR r (some a)) (b := v) hr hr4) wd_combined co_combined (by decide) rfl (by decide) dX1_reduceGroup_103 ?_
            rintro w fi' ar2 ⟨rfl, rfl, rfl⟩
            refine mr_goto hG 111 dX1_reduceGroup_106 (by decide) ?_
            refine mr_istore2 hG dX1_reduceGroup_111 ?_
            refine mr_iconst hG 1 dX1_reduceGroup_112 (by decide) ?_
            refine mr_istore3 hG dX1_reduceGroup_113 ?_
            show G 114 _ _ _ _
            have e9 : gR r (some (stp r (some a) v)) = comb r (gR r (some a)) v := stp_s c3
            have key := fin (.int v)
            rw [e9] at key
            exact key
        · subst c3
          refine mr_bipush hG (nI 31) dX1_reduceGroup_84 (by decide) ?_
          refine mr_iload2 hG dX1_reduceGroup_86 ?_
          refine mr_imul hG dX1_reduceGroup_87 ?_
          refine mr_iload5 hG dX1_reduceGroup_88 ?_
          refine mr_iadd hG dX1_reduceGroup_90 ?_
          refine mr_istore2 hG dX1_reduceGroup_91 ?_
          refine mr_goto hG 112 dX1_reduceGroup_92 (by decide) ?_
          show G 112 _ _ _ _
          refine mr_iconst hG 1 dX1_reduceGroup_112 (by decide) ?_
          refine mr_istore3 hG dX1_reduceGroup_113 ?_
          show G 114 _ _ _ _
          have e9 : gR 4 (some (stp 4 o v)) = nI 31 * gR 4 o + v := stp_4
          have key := fin (.int v)
          rw [e9] at key
          exact key
theorem lp_grp_out (hG : mr_Cl K1 cX1_reduceGroup 6 none 1 22 Post h ad G) {P p k r oe : Nat} (hr : fi 12 = nI r) (hr4 : r ≤ 4) (hk16 : k < 16) (hkp : k % P = p) {sps : List PL} (h32 : sps.length ≤ 32) (h64 : sps.flatten.length ≤ 64) (hoe : fi 27 = nI oe) (hoe16 : oe < 16) :
    ∀ (n s : Nat) (ar : Nat → Nat → Int32) (l5 : Value), s ≤ sps.length → sps.length < s + n → Sp P fi ar sps → (∀ s' l, sps[s']? = some l → ar 22 s' = nI (base sps s' + pos P l (if s' < s then 16 * p + k + 1 else 16 * p + k)) ∧ ar 23 s' = nI (base sps s' + pos P l (16 * (p + 1)))) →
    (∀ ar', eqA [22, 25, 26] ar ar' → (∀ j, j ≠ oe → ar' 25 j = ar 25 j ∧ ar' 26 j = ar 26 j) → ar' 25 oe = nI k → ar' 26 oe = gR r (fv r k none sps.flatten) → Hd P ar' sps p (16 * p + k + 1) → Post 0 (upd fi 27 (nI (oe + 1))) ar') →
    G 20 [.ref h, .int (nI k), .int (gR r (fv r k none (sps.take s).flatten)), .int (gB (fv r k none (sps.take s).flatten)), .int (nI s), l5] [] fi ar := by
  intro n
  induction n with
  | zero => intro s ar l5 h1 h2; omega
  | succ n ih =>
    intro s ar l5 h1 h2 hS hH hk
    refine mr_iload4 hG dX1_reduceGroup_20 ?_
    refine mr_aload0 hG dX1_reduceGroup_22 ?_
    refine f1_get_17 hG dX1_reduceGroup_23 ?_
    refine mr_top (hS.1) ?_
    show G 26 _ _ _ _
    refine mr_icmp_geN hG 135 dX1_reduceGroup_26 (by decide) (by omega) (by omega) (fun c => ?_) (fun c => ?_)
    · have e : s = sps.length := by omega
      subst e
      rw [List.take_length]
      refine mr_aload0 hG dX1_reduceGroup_135 ?_
      refine f1_get_25 hG dX1_reduceGroup_136 ?_
      refine mr_aload0 hG dX1_reduceGroup_139 ?_
      refine f1_get_27 hG dX1_reduceGroup_140 ?_
      refine mr_top (hoe) ?_
      refine mr_iload1 hG dX1_reduceGroup_143 ?_
      refine mr_i2b hG dX1_reduceGroup_144 (i8 _ (by omega)) ?_
      refine f1_st_25 hG dX1_reduceGroup_145 oe rfl (by omega) (nar_b (by omega)) ?_
      show G 146 _ _ _ _
      refine mr_aload0 hG dX1_reduceGroup_146 ?_
      refine f1_get_26 hG dX1_reduceGroup_147 ?_
      refine mr_aload0 hG dX1_reduceGroup_150 ?_
      refine f1_get_27 hG dX1_reduceGroup_151 ?_
      refine mr_top (hoe) ?_
      refine mr_iload2 hG dX1_reduceGroup_154 ?_
      refine f1_st_26 hG dX1_reduceGroup_155 oe rfl (by omega) rfl ?_
      refine mr_aload0 hG dX1_reduceGroup_156 ?_
      refine mr_dup hG dX1_reduceGroup_157 rfl ?_
      refine f1_get_27 hG dX1_reduceGroup_158 ?_
      refine mr_top (hoe) ?_
      refine mr_iconst hG 1 dX1_reduceGroup_161 (by decide) ?_
      refine mr_iaddN hG dX1_reduceGroup_162 ?_
      refine f1_put_27 hG dX1_reduceGroup_163 ?_
      show G 166 _ _ _ _
      refine mr_vret hG dX1_reduceGroup_166 (hk _ (eqA.up (eqA.up eqA.rf (by decide)) (by decide)) (fun j hj => ⟨by rw [ua_o (by decide), ua_n hj], by rw [ua_n hj, ua_o (by decide)]⟩) (by rw [ua_o (by decide), ua_s]) (by rw [ua_s]) ?_)
      intro s' l hl
      rw [ua_o (by decide), ua_o (by decide), ua_o (by decide), ua_o (by decide)]
      have h3 := hH s' l hl
      rw [if_pos (List.getElem?_eq_some_iff.mp hl).1] at h3
      exact h3
    · obtain ⟨l, hl⟩ : ∃ l, sps[s]? = some l := ⟨_, List.getElem?_eq_getElem c⟩
      have hb := base_le hl
      obtain ⟨hsrt, h16⟩ := hS.get hl
      obtain ⟨D, C, d1, d2, d3⟩ := srt_split (t := 16 * p + k) hsrt
      obtain ⟨g1, g2⟩ := hH s l hl
      rw [if_neg (by omega)] at g1
      have hpos : pos P l (16 * p + k) = D.length := by rw [d1]; exact pos_split d2 d3
      rw [hpos] at g1
      show G 29 _ _ _ _
      refine lp_grp_in hG hr hr4 hk16 hkp (by omega) (l := l) (b := base sps s) (by omega) hsrt h16 rfl C D _ ar l5 d1.symm (hS.hold hl) g1 g2 (fun x hx => by have := d2 x hx; omega) d3 ?_
      intro D' C' ar' l5' e1 e2 e3 e4 e5 e6
      refine mr_iincS4 hG dX1_reduceGroup_129 ?_
      refine mr_goto hG 20 dX1_reduceGroup_132 (by decide) ?_
      show G 20 _ _ _ _
      have hfv : fv r k (fv r k none (sps.take s).flatten) C = fv r k none (sps.take (s + 1)).flatten := by
        rw [base_s hl, List.flatten_append, fv_app]
        simp only [List.flatten_cons, List.flatten_nil, List.append_nil]
        have hDn : fv r k (fv r k none (sps.take s).flatten) D = fv r k none (sps.take s).flatten := fv_none (fun e he ee => by
          have := d2 e he
          rw [ee, rk_of hkp] at this
          omega)
        rw [d1, fv_app, hDn]
      rw [hfv]
      refine ih (s + 1) ar' l5' (by omega) (by omega) (hS.eq rfl rfl (e6 19 (by decide)) (e6 20 (by decide)) (e6 21 (by decide))) ?_ ?_
      · intro s' l' hl'
        rw [e6 23 (by decide)]
        by_cases e9 : s' = s
        · subst e9
          cases hl.symm.trans hl'
          rw [if_pos (by omega)]
          refine ⟨?_, g2⟩
          rw [e4]
          have hpos2 : pos P l (16 * p + k + 1) = D'.length := by rw [← e1]; exact pos_split e2 e3
          rw [hpos2]
        · rw [e5 s' e9]
          have h3 := hH s' l' hl'
          by_cases e10 : s' < s
          · rw [if_pos e10] at h3
            rw [if_pos (by omega)]
            exact h3
          · rw [if_neg e10] at h3
            rw [if_neg (by omega)]
            exact h3
      · intro ar2 f1 f2 f3 f4 f5
        refine hk ar2 (eqA.tr (e6.wk (by decide)) f1) (fun j hj => ?_) f3 f4 f5
        obtain ⟨q1, q2⟩ := f2 j hj
        rw [q1, q2, e6 25 (by decide), e6 26 (by decide)]
        exact ⟨rfl, rfl⟩
theorem ct_reduceGroup {ar : Nat → Nat → Int32} {P p k r oe : Nat} (hr : fi 12 = nI r) (hr4 : r ≤ 4) (hk16 : k < 16) (hkp : k % P = p) {sps : List PL} (h32 : sps.length ≤ 32) (h64 : sps.flatten.length ≤ 64) (hoe : fi 27 = nI oe) (hoe16 : oe < 16) (hS : Sp P fi ar sps) (hH : Hd P ar sps p (16 * p + k)) : mr_Con K1 yX1_reduceGroup cX1_reduceGroup 6 none 1 22 [.int (nI k)] fi ar (fun _ fi' ar' => fi' = upd fi 27 (nI (oe + 1)) ∧ eqA [22, 25, 26] ar ar' ∧ (∀ j, j ≠ oe → ar' 25 j = ar 25 j ∧ ar' 26 j = ar 26 j) ∧ ar' 25 oe = nI k ∧ ar' 26 oe = gR r (fv r k none sps.flatten) ∧ Hd P ar' sps p (16 * p + k + 1)) := by
  refine mr_con ok1 (by decide) rfl 4 rfl rfl ?_
  intro h ad G hG
  show G 0 [.ref h, .int (nI k), .null, .null, .null, .null] [] fi ar
  have go : ∀ l5, G 20 [.ref h, .int (nI k), .int (ini r), .int (nI 0), .int (nI 0), l5] [] fi ar := by
    intro l5
    refine lp_grp_out hG hr hr4 hk16 hkp h32 h64 hoe hoe16 (sps.length + 1) 0 ar l5 (by omega) (by omega) hS (fun s' l hl => ?_) (fun ar' f1 f2 f3 f4 f5 => ⟨rfl, f1, f2, f3, f4, f5⟩)
    rw [if_neg (by omega)]
    exact hH s' l hl
  refine mr_aload0 hG dX1_reduceGroup_0 ?_
  refine f1_get_12 hG dX1_reduceGroup_1 ?_
  refine mr_top (hr) ?_
  refine mr_iconst hG 4 dX1_reduceGroup_4 (by decide) ?_
  show G 5 _ _ _ _
  refine mr_icmp_neN hG 13 dX1_reduceGroup_5 (by decide) (by omega) (by omega) (fun c => ?_) (fun c => ?_)
  · refine mr_iconst hG 0 dX1_reduceGroup_13 (by decide) ?_
    refine mr_istore2 hG dX1_reduceGroup_14 ?_
    refine mr_iconst hG 0 dX1_reduceGroup_15 (by decide) ?_
    refine mr_istore3 hG dX1_reduceGroup_16 ?_
    refine mr_iconst hG 0 dX1_reduceGroup_17 (by decide) ?_
    refine mr_istore4 hG dX1_reduceGroup_18 ?_
    show G 20 _ _ _ _
    have e9 : ini r = nI 0 := by unfold ini; rw [if_neg c]
    have key := go .null
    rw [e9] at key
    exact key
  · refine mr_bipush hG (nI 7) dX1_reduceGroup_8 (by decide) ?_
    refine mr_goto hG 14 dX1_reduceGroup_10 (by decide) ?_
    refine mr_istore2 hG dX1_reduceGroup_14 ?_
    refine mr_iconst hG 0 dX1_reduceGroup_15 (by decide) ?_
    refine mr_istore3 hG dX1_reduceGroup_16 ?_
    refine mr_iconst hG 0 dX1_reduceGroup_17 (by decide) ?_
    refine mr_istore4 hG dX1_reduceGroup_18 ?_
    show G 20 _ _ _ _
    have e9 : ini r = nI 7 := by unfold ini; rw [if_pos c]
    have key := go .null
    rw [e9] at key
    exact key
end Grp
end
section
set_option maxRecDepth 100000
set_option linter.unusedVariables false
/-! the output, by ranks; reducePart -/
def okr (P : Nat) (hs : Nat → Bool) (t : Nat) : Bool := hs (t % 16) && decide ((t % 16) % P = t / 16)
def ol (P : Nat) (hs : Nat → Bool) : Nat → List Nat
  | 0 => []
  | t + 1 => ol P hs t ++ (if okr P hs t then [t % 16] else [])
theorem ol_s {P : Nat} {hs : Nat → Bool} {t : Nat} : ol P hs (t + 1) = ol P hs t ++ (if okr P hs t then [t % 16] else []) := rfl
theorem okr_rk {P : Nat} {hs : Nat → Bool} {t : Nat} (h : okr P hs t = true) : hs (t % 16) = true ∧ rk P (t % 16) = t ∧ t % 16 < 16 := by
  unfold okr at h
  simp only [Bool.and_eq_true, decide_eq_true_eq] at h
  refine ⟨h.1, ?_, Nat.mod_lt _ (by decide)⟩
  unfold rk
  rw [h.2]
  omega
theorem okr_of {P k : Nat} {hs : Nat → Bool} (hk : k < 16) (h : hs k = true) : okr P hs (rk P k) = true ∧ rk P k % 16 = k := by
  have e : rk P k % 16 = k := by unfold rk; omega
  have e2 : rk P k / 16 = k % P := by unfold rk; omega
  unfold okr
  rw [e, e2, h]
  simp
theorem ol_skip {P : Nat} {hs : Nat → Bool} {t : Nat} : ∀ (n : Nat), (∀ u, t ≤ u → u < t + n → okr P hs u = false) → ol P hs (t + n) = ol P hs t
  | 0, _ => rfl
  | n + 1, h => by
    have e : t + (n + 1) = t + n + 1 := by omega
    rw [e, ol_s, h (t + n) (by omega) (by omega)]
    simp only [Bool.false_eq_true, if_false, List.append_nil]
    exact ol_skip n (fun u h1 h2 => h u h1 (by omega))
theorem ol_to {P : Nat} {hs : Nat → Bool} {t T : Nat} (hT : t ≤ T) (h : ∀ u, t ≤ u → u < T → okr P hs u = false) : ol P hs T = ol P hs t := by
  obtain ⟨n, rfl⟩ : ∃ n, T = t + n := ⟨T - t, by omega⟩
  exact ol_skip n h
theorem ol_key {P k : Nat} {hs : Nat → Bool} (hk : k < 16) (h : hs k = true) : ol P hs (rk P k + 1) = ol P hs (rk P k) ++ [k] := by
  obtain ⟨e1, e2⟩ := okr_of (P := P) hk h
  rw [ol_s, e1, e2]
  simp
theorem cnt_mono {l : List Nat} {p q : Nat → Bool} (h : ∀ x ∈ l, p x = true → q x = true) : l.countP p ≤ l.countP q := List.countP_mono_left h
theorem cnt_lt : ∀ {l : List Nat} {p q : Nat → Bool} {y : Nat}, (∀ x ∈ l, p x = true → q x = true) → y ∈ l → q y = true → p y = false → l.countP p < l.countP q
  | [], p, q, y, h, hy, _, _ => by simp at hy
  | x :: l, p, q, y, h, hy, hq, hp => by
    rw [List.countP_cons, List.countP_cons]
    have h2 : l.countP p ≤ l.countP q := cnt_mono (fun z hz => h z (List.mem_cons_of_mem _ hz))
    rcases List.mem_cons.mp hy with e | e
    · subst e
      rw [hq, hp]
      simp
      omega
    · have h3 := cnt_lt (fun z hz => h z (List.mem_cons_of_mem _ hz)) e hq hp
      have h4 := h x List.mem_cons_self
      cases hpx : p x with
      | false => simp; omega
      | true => rw [h4 hpx]; simp; omega
theorem ol_len {P : Nat} {hs : Nat → Bool} : ∀ t, (ol P hs t).length ≤ (List.range 16).countP (fun k => hs k && decide (rk P k < t))
  | 0 => Nat.zero_le _
  | t + 1 => by
    have ih := ol_len (P := P) (hs := hs) t
    rw [ol_s, List.length_append]
    by_cases ho : okr P hs t = true
    · rw [if_pos ho]
      obtain ⟨h1, h2, h3⟩ := okr_rk ho
      have := cnt_lt (l := List.range 16) (p := fun k => hs k && decide (rk P k < t)) (q := fun k => hs k && decide (rk P k < t + 1)) (y := t % 16) (fun x _ hx => by simp at hx ⊢; exact ⟨hx.1, by omega⟩) (List.mem_range.mpr h3) (by simp [h1, h2]) (by simp [h2])
      simp only [List.length_singleton]
      omega
    · rw [if_neg ho]
      have := cnt_mono (l := List.range 16) (p := fun k => hs k && decide (rk P k < t)) (q := fun k => hs k && decide (rk P k < t + 1)) (fun x _ hx => by simp at hx ⊢; exact ⟨hx.1, by omega⟩)
      simp only [List.length_nil]
      omega
theorem ol_16 {P : Nat} {hs : Nat → Bool} (t : Nat) : (ol P hs t).length ≤ 16 := by
  have h1 := ol_len (P := P) (hs := hs) t
  have h2 : (List.range 16).countP (fun k => hs k && decide (rk P k < t)) ≤ (List.range 16).length := List.countP_le_length
  rw [List.length_range] at h2
  omega
theorem ol_lt {P k t : Nat} {hs : Nat → Bool} (hk : k < 16) (h : t ≤ rk P k) : (ol P hs t).length < 16 := by
  have h1 := ol_len (P := P) (hs := hs) t
  have h2 := cnt_lt (l := List.range 16) (p := fun k => hs k && decide (rk P k < t)) (q := fun _ => true) (y := k) (fun _ _ _ => rfl) (List.mem_range.mpr hk) rfl (by simp; omega)
  have h3 : (List.range 16).countP (fun _ => true) ≤ (List.range 16).length := List.countP_le_length
  rw [List.length_range] at h3
  omega
theorem ol_mem {P : Nat} {hs : Nat → Bool} : ∀ {t k : Nat}, k ∈ ol P hs t → k < 16 ∧ hs k = true ∧ rk P k < t
  | 0, k, h => by simp [ol] at h
  | t + 1, k, h => by
    rw [ol_s] at h
    rcases List.mem_append.mp h with g | g
    · obtain ⟨a, b, c⟩ := ol_mem g
      exact ⟨a, b, by omega⟩
    · by_cases ho : okr P hs t = true
      · rw [if_pos ho, List.mem_singleton] at g
        obtain ⟨h1, h2, h3⟩ := okr_rk ho
        subst g
        exact ⟨h3, h1, by omega⟩
      · rw [if_neg ho] at g
        simp at g
/-- the output up to the rank t -/
def Out (P : Nat) (hs : Nat → Bool) (val : Nat → Int32) (fi : Nat → Int32) (ar : Nat → Nat → Int32) (t : Nat) : Prop := fi 27 = nI (ol P hs t).length ∧ hold (ar 25) (ar 26) 0 ((ol P hs t).map (fun k => (k, val k)))
theorem co_combined0 : True := trivial
theorem co_openSpills {a : Value} : mr_callok K1 yX1_openSpills [a] := ⟨rfl, by decide, by decide, by show _ = some 1; decide +kernel⟩
theorem wd_openSpills : GoodIn lw_all (wsV K1.1 132 K1.1 yX1_openSpills (ws_ yX1_openSpills cX1_openSpills 3 none)) := lw_V q172 q174 qs9 q17 q175
theorem co_leastHead : mr_callok K1 yX1_leastHead [] := ⟨rfl, by decide, by decide, by decide +kernel⟩
theorem wd_leastHead : GoodIn lw_all (wsV K1.1 135 K1.1 yX1_leastHead (ws_ yX1_leastHead cX1_leastHead 4 (some .int))) := lw_V q176 q178 qs10 q17 q179
theorem co_reduceGroup {a : Value} : mr_callok K1 yX1_reduceGroup [a] := ⟨rfl, by decide, by decide, by show _ = some 1; decide +kernel⟩
theorem wd_reduceGroup : GoodIn lw_all (wsV K1.1 138 K1.1 yX1_reduceGroup (ws_ yX1_reduceGroup cX1_reduceGroup 6 none)) := lw_V q180 q182 qs11 q17 q183
theorem Hd.eq {P p t T : Nat} {ar : Nat → Nat → Int32} {sps : List PL} (h : Hd P ar sps p t) (hT : t ≤ T) (he : ∀ l ∈ sps, ∀ e ∈ l, t ≤ rk P e.1 → T ≤ rk P e.1) : Hd P ar sps p T := by
  intro s l hl
  have h1 := h s l hl
  rw [pos_eq hT (he l (List.mem_of_getElem? hl))] at h1
  exact h1
section Prt
variable {Post : mr_PT} {h : Nat} {ad : Nat → Nat} {G : mr_GT}
theorem lp_red_go (hG : mr_Cl K1 cX1_reducePart 6 none 2 60 Post h ad G) {fi0 : Nat → Int32} {ar0 : Nat → Nat → Int32} {P p r : Nat} (hr : fi0 12 = nI r) (hr4 : r ≤ 4) {sps : List PL} (h32 : sps.length ≤ 32) (h64 : sps.flatten.length ≤ 64) (hS : Sp P fi0 ar0 sps) {hs : Nat → Bool} (hhs : ∀ k, k < 16 → (hs k = true ↔ ∃ l ∈ sps, ∃ e ∈ l, e.1 = k)) {l2 : Value} (hk : ∀ fi ar l4 l5, eqF [27] fi0 fi → eqA [22, 23, 25, 26] ar0 ar → Out P hs (fun k => gR r (fv r k none sps.flatten)) fi ar (16 * (p + 1)) → G 71 [.ref h, .int (nI p), l2, .int (nI 0), l4, l5] [] fi ar) :
    ∀ (n t : Nat) (x : Int32) (fi : Nat → Int32) (ar : Nat → Nat → Int32), 16 * p ≤ t → t ≤ 16 * (p + 1) → 16 * (p + 1) < t + n → eqF [27] fi0 fi → eqA [22, 23, 25, 26] ar0 ar → Hd P ar sps p t → Out P hs (fun k => gR r (fv r k none sps.flatten)) fi ar t → LH P sps t (16 * (p + 1)) x → G 35 [.ref h, .int (nI p), l2, .int (nI 0), .int x, .int (nI 1)] [] fi ar := by
  intro n
  induction n with
  | zero => intro t x fi ar h1 h2 h3; omega
  | succ n ih =>
    intro t x fi ar h1 h2 h3 hF hA hH hO hL
    refine mr_iload4 hG dX1_reducePart_35 ?_
    show G 37 _ _ _ _
    rcases hL with ⟨y1, y2⟩ | ⟨k, y1, y2, y3, y4, ⟨l1, y5, e1, y6, y7⟩, y8⟩
    · subst y1
      refine mr_if_lt hG 71 dX1_reducePart_37 (by decide) (fun c => ?_) (fun c => absurd (show (-1 : Int32) < 0 by decide) c)
      refine hk fi ar _ _ hF hA ?_
      have e : ol P hs (16 * (p + 1)) = ol P hs t := ol_to h2 (fun u u1 u2 => by
        cases ho : okr P hs u with
        | false => rfl
        | true =>
          obtain ⟨o1, o2, o3⟩ := okr_rk ho
          obtain ⟨l, g1, e, g2, g3⟩ := (hhs _ o3).mp o1
          have := y2 l g1 e g2 (by rw [g3, o2]; exact u1)
          rw [g3, o2] at this
          omega)
      unfold Out
      rw [e]
      exact hO
    · subst y1
      refine mr_if_lt hG 71 dX1_reducePart_37 (by decide) (fun c => absurd c (n_neg (by omega))) (fun c => ?_)
      refine mr_iload5 hG dX1_reducePart_40 ?_
      show G 42 _ _ _ _
      refine mr_if_eq hG 71 dX1_reducePart_42 (by decide) (fun c2 => absurd c2 (by decide)) (fun c2 => ?_)
      have hkp : k % P = p := by
        unfold rk at y3 y4
        omega
      have hrk : rk P k = 16 * p + k := rk_of hkp
      have hhk : hs k = true := (hhs k y2).mpr ⟨l1, y5, e1, y6, y7⟩
      have e2 : ol P hs (rk P k) = ol P hs t := ol_to y3 (fun u u1 u2 => by
        cases ho : okr P hs u with
        | false => rfl
        | true =>
          obtain ⟨o1, o2, o3⟩ := okr_rk ho
          obtain ⟨l, g1, e, g2, g3⟩ := (hhs _ o3).mp o1
          have := y8 l g1 e g2 (by rw [g3, o2]; exact u1)
          rw [g3, o2] at this
          omega)
      have hlt : (ol P hs t).length < 16 := ol_lt y2 y3
      have hS2 : Sp P fi ar sps := hS.eq (hF 17 (by decide)) (hF 18 (by decide)) (hA 19 (by decide)) (hA 20 (by decide)) (hA 21 (by decide))
      have hH2 : Hd P ar sps p (16 * p + k) := by rw [← hrk]; exact hH.eq y3 y8
      refine mr_aload0 hG dX1_reducePart_45 ?_
      refine mr_iload4 hG dX1_reducePart_46 ?_
      show G 48 _ _ _ _
      refine mr_callv hG (ct_reduceGroup (p := p) (by rw [hF 12 (by decide)]; exact hr) hr4 y2 hkp h32 h64 hO.1 hlt hS2 hH2) wd_reduceGroup co_reduceGroup (by decide) rfl (by decide) dX1_reducePart_48 ?_
      rintro fi2 ar2 ⟨rfl, g1, g2, g3, g4, g5⟩
      refine mr_iload3 hG dX1_reducePart_51 ?_
      show G 52 _ _ _ _
      refine mr_if_ne hG 59 dX1_reducePart_52 (by decide) (fun c3 => absurd nI_0 c3) (fun c3 => ?_)
      refine mr_iconst hG 1 dX1_reducePart_55 (by decide) ?_
      refine mr_goto hG 60 dX1_reducePart_56 (by decide) ?_
      refine mr_istore5 hG dX1_reducePart_60 ?_
      refine mr_aload0 hG dX1_reducePart_62 ?_
      show G 63 _ _ _ _
      have hF3 : eqF [27] fi0 (upd fi 27 (nI ((ol P hs t).length + 1))) := eqF.up hF (by decide)
      have hA3 : eqA [22, 23, 25, 26] ar0 ar2 := hA.tr (g1.wk (by decide))
      have hS3 : Sp P (upd fi 27 (nI ((ol P hs t).length + 1))) ar2 sps := hS.eq (hF3 17 (by decide)) (hF3 18 (by decide)) (hA3 19 (by decide)) (hA3 20 (by decide)) (hA3 21 (by decide))
      refine mr_calli hG (ct_leastHead (p := p) (t := 16 * p + k + 1) (by omega) (by omega) h32 h64 hS3 g5) wd_leastHead co_leastHead (by decide) rfl (by decide) dX1_reducePart_63 ?_
      rintro x2 fi3 ar3 ⟨rfl, rfl, hL2⟩
      refine mr_istore4 hG dX1_reducePart_66 ?_
      refine mr_goto hG 35 dX1_reducePart_68 (by decide) ?_
      show G 35 _ _ _ _
      refine ih (16 * p + k + 1) x2 _ ar3 (by omega) (by omega) (by omega) hF3 hA3 g5 ?_ hL2
      have e3 : ol P hs (16 * p + k + 1) = ol P hs t ++ [k] := by
        rw [← hrk, ol_key y2 hhk, e2]
      refine ⟨by rw [up_s, e3, List.length_append]; rfl, ?_⟩
      rw [e3, List.map_append, hold_app, Nat.zero_add, List.length_map]
      refine ⟨hold_fr hO.2 (fun j j1 j2 => ?_), hold_cons.mpr ⟨⟨g3, g4⟩, hold_nil⟩⟩
      rw [List.length_map] at j2
      exact g2 j (by omega)
theorem lp_red_at (hG : mr_Cl K1 cX1_reducePart 6 none 2 60 Post h ad G) {fi0 : Nat → Int32} {ar0 : Nat → Nat → Int32} {P p r : Nat} (hp : p ≤ 3) (hr : fi0 12 = nI r) (hr4 : r ≤ 4) {sps : List PL} (h32 : sps.length ≤ 32) (h64 : sps.flatten.length ≤ 64) (hS : Sp P fi0 ar0 sps) {hs : Nat → Bool} (hhs : ∀ k, k < 16 → (hs k = true ↔ ∃ l ∈ sps, ∃ e ∈ l, e.1 = k)) (hk : ∀ fi ar, eqF [27] fi0 fi → eqA [22, 23, 25, 26] ar0 ar → Out P hs (fun k => gR r (fv r k none sps.flatten)) fi ar (16 * (p + 1)) → Post 0 fi ar) :
    ∀ (a : Nat) (fi : Nat → Int32) (ar : Nat → Nat → Int32) (l4 l5 : Value), a ≤ 3 → eqF [27] fi0 fi → eqA [22, 23, 25, 26] ar0 ar → hold (ar 25) (ar 26) 0 ((ol P hs (16 * p)).map (fun k => (k, gR r (fv r k none sps.flatten)))) → G 12 [.ref h, .int (nI p), .int (nI (ol P hs (16 * p)).length), .int (nI a), l4, l5] [] fi ar := by
  intro a
  induction a with
  | zero =>
    intro fi ar l4 l5 ha hF hA hO
    refine mr_iload3 hG dX1_reducePart_12 ?_
    show G 13 _ _ _ _
    refine mr_if_lt hG 77 dX1_reducePart_13 (by decide) (fun c => absurd c (n_neg (by omega))) (fun c => ?_)
    refine mr_aload0 hG dX1_reducePart_16 ?_
    refine mr_iload2 hG dX1_reducePart_17 ?_
    refine f1_put_27 hG dX1_reducePart_18 ?_
    refine mr_aload0 hG dX1_reducePart_21 ?_
    refine mr_iload1 hG dX1_reducePart_22 ?_
    show G 23 _ _ _ _
    have hF2 : eqF [27] fi0 (upd fi 27 (nI (ol P hs (16 * p)).length)) := eqF.up hF (by decide)
    have hS2 : Sp P (upd fi 27 (nI (ol P hs (16 * p)).length)) ar sps := hS.eq (hF2 17 (by decide)) (hF2 18 (by decide)) (hA 19 (by decide)) (hA 20 (by decide)) (hA 21 (by decide))
    refine mr_callv hG (ct_openSpills hp h32 h64 hS2) wd_openSpills co_openSpills (by decide) rfl (by decide) dX1_reducePart_23 ?_
    rintro fi2 ar2 ⟨rfl, g1, g2⟩
    refine mr_aload0 hG dX1_reducePart_26 ?_
    show G 27 _ _ _ _
    have hA2 : eqA [22, 23, 25, 26] ar0 ar2 := hA.tr (g1.wk (by decide))
    have hS3 : Sp P (upd fi 27 (nI (ol P hs (16 * p)).length)) ar2 sps := hS2.eq rfl rfl (g1 19 (by decide)) (g1 20 (by decide)) (g1 21 (by decide))
    refine mr_calli hG (ct_leastHead (p := p) (t := 16 * p) (by omega) (by omega) h32 h64 hS3 g2) wd_leastHead co_leastHead (by decide) rfl (by decide) dX1_reducePart_27 ?_
    rintro x fi3 ar3 ⟨rfl, rfl, hL⟩
    refine mr_istore4 hG dX1_reducePart_30 ?_
    refine mr_iconst hG 1 dX1_reducePart_32 (by decide) ?_
    refine mr_istore5 hG dX1_reducePart_33 ?_
    show G 35 _ _ _ _
    refine lp_red_go hG hr hr4 h32 h64 hS hhs ?_ 17 (16 * p) x _ ar3 (by omega) (by omega) (by omega) hF2 hA2 g2 ⟨up_s, ?_⟩ hL
    · intro fi4 ar4 l4' l5' f1 f2 f3
      refine mr_iinc3 hG dX1_reducePart_71 (v := -1) (by decide) ?_
      refine mr_goto hG 12 dX1_reducePart_74 (by decide) ?_
      show G 12 _ _ _ _
      refine mr_iload3 hG dX1_reducePart_12 ?_
      show G 13 _ _ _ _
      refine mr_if_lt hG 77 dX1_reducePart_13 (by decide) (fun c => ?_) (fun c => absurd (show (-1 : Int32) < 0 by decide) c)
      exact mr_vret hG dX1_reducePart_77 (hk fi4 ar4 f1 f2 f3)
    · rw [g1 25 (by decide), g1 26 (by decide)]
      exact hO
  | succ a ih =>
    intro fi ar l4 l5 ha hF hA hO
    refine mr_iload3 hG dX1_reducePart_12 ?_
    show G 13 _ _ _ _
    refine mr_if_lt hG 77 dX1_reducePart_13 (by decide) (fun c => absurd c (n_neg (by omega))) (fun c => ?_)
    refine mr_aload0 hG dX1_reducePart_16 ?_
    refine mr_iload2 hG dX1_reducePart_17 ?_
    refine f1_put_27 hG dX1_reducePart_18 ?_
    refine mr_aload0 hG dX1_reducePart_21 ?_
    refine mr_iload1 hG dX1_reducePart_22 ?_
    show G 23 _ _ _ _
    have hF2 : eqF [27] fi0 (upd fi 27 (nI (ol P hs (16 * p)).length)) := eqF.up hF (by decide)
    have hS2 : Sp P (upd fi 27 (nI (ol P hs (16 * p)).length)) ar sps := hS.eq (hF2 17 (by decide)) (hF2 18 (by decide)) (hA 19 (by decide)) (hA 20 (by decide)) (hA 21 (by decide))
    refine mr_callv hG (ct_openSpills hp h32 h64 hS2) wd_openSpills co_openSpills (by decide) rfl (by decide) dX1_reducePart_23 ?_
    rintro fi2 ar2 ⟨rfl, g1, g2⟩
    refine mr_aload0 hG dX1_reducePart_26 ?_
    show G 27 _ _ _ _
    have hA2 : eqA [22, 23, 25, 26] ar0 ar2 := hA.tr (g1.wk (by decide))
    have hS3 : Sp P (upd fi 27 (nI (ol P hs (16 * p)).length)) ar2 sps := hS2.eq rfl rfl (g1 19 (by decide)) (g1 20 (by decide)) (g1 21 (by decide))
    have hO2 : hold (ar2 25) (ar2 26) 0 ((ol P hs (16 * p)).map (fun k => (k, gR r (fv r k none sps.flatten)))) := by
      rw [g1 25 (by decide), g1 26 (by decide)]
      exact hO
    refine mr_calli hG (ct_leastHead (p := p) (t := 16 * p) (by omega) (by omega) h32 h64 hS3 g2) wd_leastHead co_leastHead (by decide) rfl (by decide) dX1_reducePart_27 ?_
    rintro x fi3 ar3 ⟨rfl, rfl, hL⟩
    refine mr_istore4 hG dX1_reducePart_30 ?_
    refine mr_iconst hG 1 dX1_reducePart_32 (by decide) ?_
    refine mr_istore5 hG dX1_reducePart_33 ?_
    refine mr_iload4 hG dX1_reducePart_35 ?_
    show G 37 _ _ _ _
    have next : ∀ fi4 ar4 l4' l5', eqF [27] fi0 fi4 → eqA [22, 23, 25, 26] ar0 ar4 → hold (ar4 25) (ar4 26) 0 ((ol P hs (16 * p)).map (fun k => (k, gR r (fv r k none sps.flatten)))) → G 71 [.ref h, .int (nI p), .int (nI (ol P hs (16 * p)).length), .int (nI (a + 1)), l4', l5'] [] fi4 ar4 := by
      intro fi4 ar4 l4' l5' f1 f2 f3
      refine mr_iinc3 hG dX1_reducePart_71 (v := nI a) (pk_m1 a) ?_
      refine mr_goto hG 12 dX1_reducePart_74 (by decide) ?_
      show G 12 _ _ _ _
      exact ih fi4 ar4 _ _ (by omega) f1 f2 f3
    rcases hL with ⟨y1, y2⟩ | ⟨k, y1, y2, y3, y4, ⟨l1, y5, e1, y6, y7⟩, y8⟩
    · subst y1
      refine mr_if_lt hG 71 dX1_reducePart_37 (by decide) (fun c => ?_) (fun c => absurd (show (-1 : Int32) < 0 by decide) c)
      exact next _ _ _ _ hF2 hA2 hO2
    · subst y1
      refine mr_if_lt hG 71 dX1_reducePart_37 (by decide) (fun c => absurd c (n_neg (by omega))) (fun c => ?_)
      refine mr_iload5 hG dX1_reducePart_40 ?_
      show G 42 _ _ _ _
      refine mr_if_eq hG 71 dX1_reducePart_42 (by decide) (fun c2 => absurd c2 (by decide)) (fun c2 => ?_)
      have hkp : k % P = p := by
        unfold rk at y3 y4
        omega
      have hrk : rk P k = 16 * p + k := rk_of hkp
      have hlt : (ol P hs (16 * p)).length < 16 := ol_lt y2 y3
      have hH2 : Hd P ar3 sps p (16 * p + k) := by rw [← hrk]; exact g2.eq y3 y8
      refine mr_aload0 hG dX1_reducePart_45 ?_
      refine mr_iload4 hG dX1_reducePart_46 ?_
      show G 48 _ _ _ _
      refine mr_callv hG (ct_reduceGroup (p := p) (by rw [hF2 12 (by decide)]; exact hr) hr4 y2 hkp h32 h64 up_s hlt hS3 hH2) wd_reduceGroup co_reduceGroup (by decide) rfl (by decide) dX1_reducePart_48 ?_
      rintro fi4 ar4 ⟨rfl, q1, q2, q3, q4, q5⟩
      refine mr_iload3 hG dX1_reducePart_51 ?_
      show G 52 _ _ _ _
      refine mr_if_ne hG 59 dX1_reducePart_52 (by decide) (fun c3 => ?_) (fun c3 => absurd c3 (nI_ne0 (by omega) (by omega)))
      refine mr_iconst hG 0 dX1_reducePart_59 (by decide) ?_
      refine mr_istore5 hG dX1_reducePart_60 ?_
      refine mr_aload0 hG dX1_reducePart_62 ?_
      show G 63 _ _ _ _
      have hF3 := eqF.up (k := 27) (x := nI ((ol P hs (16 * p)).length + 1)) hF2 (by decide)
      have hA3 : eqA [22, 23, 25, 26] ar0 ar4 := hA2.tr (q1.wk (by decide))
      have hS4 : Sp P (upd (upd fi 27 (nI (ol P hs (16 * p)).length)) 27 (nI ((ol P hs (16 * p)).length + 1))) ar4 sps := hS.eq (hF3 17 (by decide)) (hF3 18 (by decide)) (hA3 19 (by decide)) (hA3 20 (by decide)) (hA3 21 (by decide))
      refine mr_calli hG (ct_leastHead (p := p) (t := 16 * p + k + 1) (by omega) (by omega) h32 h64 hS4 q5) wd_leastHead co_leastHead (by decide) rfl (by decide) dX1_reducePart_63 ?_
      rintro x2 fi5 ar5 ⟨rfl, rfl, hL2⟩
      have hO3 : hold (ar5 25) (ar5 26) 0 ((ol P hs (16 * p)).map (fun k => (k, gR r (fv r k none sps.flatten)))) := by
        refine hold_fr hO2 (fun j j1 j2 => ?_)
        rw [List.length_map] at j2
        exact q2 j (by omega)
      refine mr_istore4 hG dX1_reducePart_66 ?_
      refine mr_goto hG 35 dX1_reducePart_68 (by decide) ?_
      show G 35 _ _ _ _
      refine mr_iload4 hG dX1_reducePart_35 ?_
      show G 37 _ _ _ _
      refine mr_if_lt hG 71 dX1_reducePart_37 (by decide) (fun c5 => ?_) (fun c5 => ?_)
      · exact next _ _ _ _ hF3 hA3 hO3
      · refine mr_iload5 hG dX1_reducePart_40 ?_
        show G 42 _ _ _ _
        refine mr_if_eq hG 71 dX1_reducePart_42 (by decide) (fun c6 => ?_) (fun c6 => absurd nI_0 c6)
        exact next _ _ _ _ hF3 hA3 hO3
theorem ct_reducePart {fi : Nat → Int32} {ar : Nat → Nat → Int32} {P p r rf : Nat} (hp : p ≤ 3) (hr : fi 12 = nI r) (hr4 : r ≤ 4) {sps : List PL} (h32 : sps.length ≤ 32) (h64 : sps.flatten.length ≤ 64) (hS : Sp P fi ar sps) {hs : Nat → Bool} (hhs : ∀ k, k < 16 → (hs k = true ↔ ∃ l ∈ sps, ∃ e ∈ l, e.1 = k)) (hrf : ar 11 p = nI rf) (hrf3 : rf ≤ 3) (hO : Out P hs (fun k => gR r (fv r k none sps.flatten)) fi ar (16 * p)) : mr_Con K1 yX1_reducePart cX1_reducePart 6 none 2 60 [.int (nI p)] fi ar (fun _ fi' ar' => eqF [27] fi fi' ∧ eqA [22, 23, 25, 26] ar ar' ∧ Out P hs (fun k => gR r (fv r k none sps.flatten)) fi' ar' (16 * (p + 1))) := by
  refine mr_con ok1 (by decide) rfl 4 rfl rfl ?_
  intro h ad G hG
  show G 0 [.ref h, .int (nI p), .null, .null, .null, .null] [] fi ar
  refine mr_aload0 hG dX1_reducePart_0 ?_
  refine f1_get_27 hG dX1_reducePart_1 ?_
  refine mr_top (hO.1) ?_
  refine mr_istore2 hG dX1_reducePart_4 ?_
  refine mr_aload0 hG dX1_reducePart_5 ?_
  refine f1_get_11 hG dX1_reducePart_6 ?_
  refine mr_iload1 hG dX1_reducePart_9 ?_
  refine f1_ld_11 hG dX1_reducePart_10 p rfl (by omega) ?_
  refine mr_top (hrf) ?_
  refine mr_istore3 hG dX1_reducePart_11 ?_
  show G 12 _ _ _ _
  exact lp_red_at hG hp hr hr4 h32 h64 hS hhs (fun fi2 ar2 f1 f2 f3 => ⟨f1, f2, f3⟩) rf fi ar _ _ hrf3 eqF.rf eqA.rf hO.2
end Prt
end
section
set_option maxRecDepth 100000
set_option linter.unusedVariables false
/-! run -/
/-- the pairs of the first s splits -/
def LL (g : Nat → PL) (sz : Nat → Nat) : Nat → PL
  | 0 => []
  | s + 1 => LL g sz s ++ pr g (16 * s) (sz s)
theorem LL_s {g : Nat → PL} {sz : Nat → Nat} {s : Nat} : LL g sz (s + 1) = LL g sz s ++ pr g (16 * s) (sz s) := rfl
theorem LL_len {g : Nat → PL} {sz : Nat → Nat} (hg : ∀ a, (g a).length ≤ 1) (hz : ∀ s, s < 4 → sz s ≤ 16) : ∀ s, s ≤ 4 → (LL g sz s).length ≤ 16 * s
  | 0, _ => Nat.le_refl 0
  | s + 1, h => by
    have h1 := LL_len hg hz s (by omega)
    have h2 := pr_len hg (16 * s) (sz s)
    have h3 := hz s (by omega)
    rw [LL_s, List.length_append]
    omega
theorem ol_false {P : Nat} : ∀ t, ol P (fun _ => false) t = []
  | 0 => rfl
  | t + 1 => by rw [ol_s, ol_false t]; rfl
theorem ol_past {P p : Nat} {hs : Nat → Bool} (hP : 1 ≤ P) (hp : P ≤ p) : ol P hs (16 * (p + 1)) = ol P hs (16 * p) := by
  refine ol_to (by omega) (fun u h1 h2 => ?_)
  unfold okr
  have h3 : (u % 16) % P < P := Nat.mod_lt _ hP
  have h4 : ¬ (u % 16) % P = u / 16 := by omega
  simp [h4]
theorem co_failuresToCome : mr_callok K1 yX1_failuresToCome [] := ⟨rfl, by decide, by decide, by decide +kernel⟩
theorem wd_failuresToCome : GoodIn lw_all (wsV K1.1 83 K1.1 yX1_failuresToCome (ws_ yX1_failuresToCome cX1_failuresToCome 3 (some .int))) := lw_V q136 q138 qs0 q17 q139
theorem co_mapSplit {a : Value} : mr_callok K1 yX1_mapSplit [a] := ⟨rfl, by decide, by decide, by show _ = some 1; decide +kernel⟩
theorem wd_mapSplit : GoodIn lw_all (wsV K1.1 96 K1.1 yX1_mapSplit (ws_ yX1_mapSplit cX1_mapSplit 8 none)) := lw_V q140 q142 qs1 q17 q143
theorem co_reducePart {a : Value} : mr_callok K1 yX1_reducePart [a] := ⟨rfl, by decide, by decide, by show _ = some 1; decide +kernel⟩
theorem wd_reducePart : GoodIn lw_all (wsV K1.1 103 K1.1 yX1_reducePart (ws_ yX1_reducePart cX1_reducePart 6 none)) := lw_V q168 q170 qs8 q17 q171
/-- the map stage: s splits are read -/
def RM (fi1 : Nat → Int32) (ar0 : Nat → Nat → Int32) (P r : Nat) (g : Nat → PL) (sz : Nat → Nat) (s : Nat) (fi : Nat → Int32) (ar : Nat → Nat → Int32) (sps : List PL) : Prop := eqF [13, 16, 17, 18] fi1 fi ∧ eqA [14, 15, 19, 20, 21] ar0 ar ∧ Sp P fi ar sps ∧ sps.length ≤ 8 * s ∧ sps.flatten.length ≤ 16 * s ∧ (∀ k o, fv r k o sps.flatten = fv r k o (LL g sz s)) ∧ fi 16 = nI (LL g sz s).length
section Rn
variable {Post : mr_PT} {h : Nat} {ad : Nat → Nat} {G : mr_GT}
theorem lp_run_map (hG : mr_Cl K1 cX1_run 4 (some .int) 5 120 Post h ad G) {fi1 : Nat → Int32} {ar0 : Nat → Nat → Int32} {P B M r : Nat} {sz mf : Nat → Nat} {g : Nat → PL} (hC : Cf P B M r fi1) (hg : ∀ a, a < 64 → g a = one M (fi1 6) (fi1 7) (fi1 8) (fi1 9) r (ar0 3 a) (ar0 4 a)) (hsz : ∀ s, s < 4 → ar0 2 s = nI (sz s) ∧ sz s ≤ 16) (hmf : ∀ i, i < 4 → ar0 10 i = nI (mf i) ∧ mf i ≤ 3) {l1 l2 : Value} (hk : ∀ fi ar sps, RM fi1 ar0 P r g sz 4 fi ar sps → G 64 [.ref h, l1, l2, .int (nI 4)] [] fi ar) :
    ∀ (n s : Nat) (fi : Nat → Int32) (ar : Nat → Nat → Int32) (sps : List PL), s ≤ 4 → 4 < s + n → RM fi1 ar0 P r g sz s fi ar sps → G 48 [.ref h, l1, l2, .int (nI s)] [] fi ar := by
  intro n
  induction n with
  | zero => intro s fi ar sps h1 h2; omega
  | succ n ih =>
    intro s fi ar sps h1 h2 hR
    refine mr_iload3 hG dX1_run_48 ?_
    refine mr_iconst hG 4 dX1_run_49 (by decide) ?_
    show G 50 _ _ _ _
    refine mr_icmp_geN hG 64 dX1_run_50 (by decide) (by omega) (by omega) (fun c => ?_) (fun c => ?_)
    · have e : s = 4 := by omega
      subst e
      exact hk fi ar sps hR
    · obtain ⟨r1, r2, r3, r4, r5, r6, r7⟩ := hR
      refine mr_aload0 hG dX1_run_53 ?_
      refine mr_iload3 hG dX1_run_54 ?_
      show G 55 _ _ _ _
      refine mr_callv hG (ct_mapSplit (sp := s) (g := g) (hC.eq r1 (by decide) (by decide) (by decide) (by decide)) r7 (by omega) r3 r4 r5 (fun a ha => by rw [r1 6 (by decide), r1 7 (by decide), r1 8 (by decide), r1 9 (by decide), r2 3 (by decide), r2 4 (by decide)]; exact hg a ha) (by rw [r2 2 (by decide)]; exact (hsz s c).1) (hsz s c).2 (by rw [r2 10 (by decide)]; exact (hmf s c).1) (hmf s c).2) wd_mapSplit co_mapSplit (by decide) rfl (by decide) dX1_run_55 ?_
      rintro fi2 ar2 ⟨d1, d2, d3, ext, d4, d5, d6, d7⟩
      refine mr_iincS3 hG dX1_run_58 ?_
      refine mr_goto hG 48 dX1_run_61 (by decide) ?_
      show G 48 _ _ _ _
      refine ih (s + 1) fi2 ar2 (sps ++ ext) (by omega) (by omega) ⟨r1.tr d1, r2.tr d2, d4, by omega, by omega, fun k o => ?_, ?_⟩
      · rw [d7, fv_app, r6, ← fv_app, LL_s]
      · rw [d3, LL_s, List.length_append]
theorem lp_run_red (hG : mr_Cl K1 cX1_run 4 (some .int) 5 120 Post h ad G) {fi1 : Nat → Int32} {ar0 : Nat → Nat → Int32} {P r : Nat} (hP : fi1 0 = nI P) (hP1 : 1 ≤ P) (hP4 : P ≤ 4) (hr : fi1 12 = nI r) (hr4 : r ≤ 4) {rf : Nat → Nat} (hrf : ∀ i, i < 4 → ar0 11 i = nI (rf i) ∧ rf i ≤ 3) {sps : List PL} (h32 : sps.length ≤ 32) (h64 : sps.flatten.length ≤ 64) (hS : Sp P fi1 ar0 sps) {gu : Bool} {hs : Nat → Bool} (hhs : gu = false → ∀ k, k < 16 → (hs k = true ↔ ∃ l ∈ sps, ∃ e ∈ l, e.1 = k)) (hgu : gu = true → hs = fun _ => false) {l1 : Value} (hk : ∀ fi ar, eqF [27] fi1 fi → eqA [10, 11, 22, 23, 24, 25, 26] ar0 ar → Out P hs (fun k => gR r (fv r k none sps.flatten)) fi ar 64 → (∀ q, q ≤ 4 → ar 24 q = nI (ol P hs (16 * q)).length) → (∀ i, i < 4 → ar 10 i = nI 0 ∧ ar 11 i = nI 0) → Post (if gu then -3 else nI (ol P hs 64).length) fi ar) :
    ∀ (n p : Nat) (fi : Nat → Int32) (ar : Nat → Nat → Int32), p ≤ 4 → 4 < p + n → eqF [27] fi1 fi → eqA [10, 11, 22, 23, 24, 25, 26] ar0 ar → Out P hs (fun k => gR r (fv r k none sps.flatten)) fi ar (16 * p) → (∀ q, q < p → ar 24 q = nI (ol P hs (16 * q)).length) → (∀ i, i < p → ar 10 i = nI 0 ∧ ar 11 i = nI 0) → (∀ i, p ≤ i → i < 4 → ar 11 i = nI (rf i)) → G 71 [.ref h, l1, .int (if gu then nI 1 else nI 0), .int (nI p)] [] fi ar := by
  intro n
  induction n with
  | zero => intro p fi ar h1 h2; omega
  | succ n ih =>
    intro p fi ar h1 h2 hF hA hO hst hz hrf2
    have hol := ol_16 (P := P) (hs := hs) (16 * p)
    refine mr_iload3 hG dX1_run_71 ?_
    refine mr_iconst hG 4 dX1_run_72 (by decide) ?_
    show G 73 _ _ _ _
    refine mr_icmp_geN hG 124 dX1_run_73 (by decide) (by omega) (by omega) (fun c => ?_) (fun c => ?_)
    · have e : p = 4 := by omega
      subst e
      refine mr_aload0 hG dX1_run_124 ?_
      refine f1_get_24 hG dX1_run_125 ?_
      refine mr_iconst hG 4 dX1_run_128 (by decide) ?_
      refine mr_aload0 hG dX1_run_129 ?_
      refine f1_get_27 hG dX1_run_130 ?_
      refine mr_top (hO.1) ?_
      refine mr_i2b hG dX1_run_133 (i8 _ (by omega)) ?_
      refine f1_st_24 hG dX1_run_134 4 rfl (by omega) (nar_b (by omega)) ?_
      refine mr_iload2 hG dX1_run_135 ?_
      show G 136 _ _ _ _
      have fin : Post (if gu then -3 else nI (ol P hs 64).length) fi (ua ar 24 4 (nI (ol P hs (16 * 4)).length)) := by
        refine hk fi _ hF (eqA.up hA (by decide)) ⟨hO.1, ?_⟩ ?_ ?_
        · rw [ua_o (by decide), ua_o (by decide)]; exact hO.2
        · intro q hq
          by_cases e9 : q = 4
          · subst e9; rw [ua_s]
          · rw [ua_n e9]; exact hst q (by omega)
        · intro i hi
          rw [ua_o (by decide), ua_o (by decide)]
          exact hz i hi
      cases gu with
      | true =>
        refine mr_if_eq hG 144 dX1_run_136 (by decide) (fun c2 => absurd c2 (by decide)) (fun c2 => ?_)
        refine mr_bipush hG (-3) dX1_run_139 (by decide) ?_
        refine mr_goto hG 148 dX1_run_141 (by decide) ?_
        show G 148 _ _ _ _
        exact mr_iret hG dX1_run_148 fin
      | false =>
        refine mr_if_eq hG 144 dX1_run_136 (by decide) (fun c2 => ?_) (fun c2 => absurd (show (nI 0 : Int32) = 0 by decide) c2)
        refine mr_aload0 hG dX1_run_144 ?_
        refine f1_get_27 hG dX1_run_145 ?_
        refine mr_top (hO.1) ?_
        show G 148 _ _ _ _
        exact mr_iret hG dX1_run_148 fin
    · refine mr_aload0 hG dX1_run_76 ?_
      refine f1_get_24 hG dX1_run_77 ?_
      refine mr_iload3 hG dX1_run_80 ?_
      refine mr_aload0 hG dX1_run_81 ?_
      refine f1_get_27 hG dX1_run_82 ?_
      refine mr_top (hO.1) ?_
      refine mr_i2b hG dX1_run_85 (i8 _ (by omega)) ?_
      refine f1_st_24 hG dX1_run_86 p rfl (by omega) (nar_b (by omega)) ?_
      refine mr_iload2 hG dX1_run_87 ?_
      show G 88 _ _ _ _
      have next : ∀ fi2 ar2, eqF [27] fi1 fi2 → eqA [10, 11, 22, 23, 24, 25, 26] ar0 ar2 → Out P hs (fun k => gR r (fv r k none sps.flatten)) fi2 ar2 (16 * (p + 1)) → (∀ q, q < p + 1 → ar2 24 q = nI (ol P hs (16 * q)).length) → (∀ i, i < p → ar2 10 i = nI 0 ∧ ar2 11 i = nI 0) → (∀ i, p ≤ i → i < 4 → ar2 11 i = nI (rf i)) → G 104 [.ref h, l1, .int (if gu then nI 1 else nI 0), .int (nI p)] [] fi2 ar2 := by
        intro fi2 ar2 f1 f2 f3 f4 f5 f6
        refine mr_aload0 hG dX1_run_104 ?_
        refine f1_get_10 hG dX1_run_105 ?_
        refine mr_iload3 hG dX1_run_108 ?_
        refine mr_iconst hG 0 dX1_run_109 (by decide) ?_
        refine f1_st_10 hG dX1_run_110 p rfl (by omega) (nar_b (by omega)) ?_
        refine mr_aload0 hG dX1_run_111 ?_
        refine f1_get_11 hG dX1_run_112 ?_
        refine mr_iload3 hG dX1_run_115 ?_
        refine mr_iconst hG 0 dX1_run_116 (by decide) ?_
        refine f1_st_11 hG dX1_run_117 p rfl (by omega) (nar_b (by omega)) ?_
        refine mr_iincS3 hG dX1_run_118 ?_
        refine mr_goto hG 71 dX1_run_121 (by decide) ?_
        show G 71 _ _ _ _
        refine ih (p + 1) fi2 _ (by omega) (by omega) f1 (eqA.up (eqA.up f2 (by decide)) (by decide)) ⟨f3.1, ?_⟩ ?_ ?_ ?_
        · rw [ua_o (by decide), ua_o (by decide), ua_o (by decide), ua_o (by decide)]; exact f3.2
        · intro q hq
          rw [ua_o (by decide), ua_o (by decide)]; exact f4 q hq
        · intro i hi
          by_cases e9 : i = p
          · subst e9; exact ⟨by rw [ua_o (by decide), ua_s], by rw [ua_s]⟩
          · rw [ua_o (by decide), ua_n e9, ua_n e9, ua_o (by decide)]
            exact f5 i (by omega)
        · intro i hi hi4
          rw [ua_n (by omega), ua_o (by decide)]
          exact f6 i (by omega) hi4
      have hA2 : eqA [10, 11, 22, 23, 24, 25, 26] ar0 (ua ar 24 p (nI (ol P hs (16 * p)).length)) := eqA.up hA (by decide)
      have hO2 : Out P hs (fun k => gR r (fv r k none sps.flatten)) fi (ua ar 24 p (nI (ol P hs (16 * p)).length)) (16 * p) := by
        refine ⟨hO.1, ?_⟩
        rw [ua_o (by decide), ua_o (by decide)]; exact hO.2
      have hst2 : ∀ q, q < p + 1 → ua ar 24 p (nI (ol P hs (16 * p)).length) 24 q = nI (ol P hs (16 * q)).length := by
        intro q hq
        by_cases e9 : q = p
        · subst e9; rw [ua_s]
        · rw [ua_n e9]; exact hst q (by omega)
      have hz2 : ∀ i, i < p → ua ar 24 p (nI (ol P hs (16 * p)).length) 10 i = nI 0 ∧ ua ar 24 p (nI (ol P hs (16 * p)).length) 11 i = nI 0 := by
        intro i hi
        rw [ua_o (by decide), ua_o (by decide)]; exact hz i hi
      have hrf3 : ∀ i, p ≤ i → i < 4 → ua ar 24 p (nI (ol P hs (16 * p)).length) 11 i = nI (rf i) := by
        intro i hi hi4
        rw [ua_o (by decide)]; exact hrf2 i hi hi4
      cases gu with
      | true =>
        refine mr_if_ne hG 104 dX1_run_88 (by decide) (fun c2 => ?_) (fun c2 => absurd c2 (by decide))
        refine next fi _ hF hA2 ?_ hst2 hz2 hrf3
        have e9 := hgu rfl
        subst e9
        unfold Out at hO2 ⊢
        rw [ol_false] at hO2 ⊢
        exact hO2
      | false =>
        refine mr_if_ne hG 104 dX1_run_88 (by decide) (fun c2 => absurd (show (nI 0 : Int32) = 0 by decide) c2) (fun c2 => ?_)
        refine mr_iload3 hG dX1_run_91 ?_
        refine mr_aload0 hG dX1_run_92 ?_
        refine f1_get_0 hG dX1_run_93 ?_
        refine mr_top ((by rw [hF 0 (by decide)]; exact hP : _ = nI P)) ?_
        show G 96 _ _ _ _
        refine mr_icmp_geN hG 104 dX1_run_96 (by decide) (by omega) (by omega) (fun c3 => ?_) (fun c3 => ?_)
        · refine next fi _ hF hA2 ?_ hst2 hz2 hrf3
          unfold Out at hO2 ⊢
          rw [ol_past hP1 c3]
          exact hO2
        · refine mr_aload0 hG dX1_run_99 ?_
          refine mr_iload3 hG dX1_run_100 ?_
          show G 101 _ _ _ _
          have hS2 : Sp P fi (ua ar 24 p (nI (ol P hs (16 * p)).length)) sps := hS.eq (hF 17 (by decide)) (hF 18 (by decide)) (hA2 19 (by decide)) (hA2 20 (by decide)) (hA2 21 (by decide))
          refine mr_callv hG (ct_reducePart (p := p) (r := r) (by omega) (by rw [hF 12 (by decide)]; exact hr) hr4 h32 h64 hS2 (hhs rfl) (hrf3 p (by omega) (by omega)) (hrf p (by omega)).2 hO2) wd_reducePart co_reducePart (by decide) rfl (by decide) dX1_run_101 ?_
          rintro fi2 ar2 ⟨g1, g2, g3⟩
          refine next fi2 ar2 (hF.tr g1) (hA2.tr (g2.wk (by decide))) g3 ?_ ?_ ?_
          · intro q hq
            rw [g2 24 (by decide)]; exact hst2 q hq
          · intro i hi
            rw [g2 10 (by decide), g2 11 (by decide)]; exact hz2 i hi
          · intro i hi hi4
            rw [g2 11 (by decide)]; exact hrf3 i hi hi4
theorem ct_run_bad {fi : Nat → Int32} {ar : Nat → Nat → Int32} {x : Int32} (hx : x < 0 ∨ nI 4 < x) : mr_Con K1 yX1_run cX1_run 4 (some .int) 5 120 [.int x] fi ar (fun v fi' ar' => fi' = fi ∧ ar' = ar ∧ v = -1) := by
  refine mr_con ok1 (by decide) rfl 2 rfl rfl ?_
  intro h ad G hG
  show G 0 [.ref h, .int x, .null, .null] [] fi ar
  refine mr_iload1 hG dX1_run_0 ?_
  show G 1 _ _ _ _
  refine mr_if_lt hG 9 dX1_run_1 (by decide) (fun c => ?_) (fun c => ?_)
  · refine mr_iconstm hG (-1) dX1_run_9 (by decide) ?_
    show G 10 _ _ _ _
    exact mr_iret hG dX1_run_10 ⟨rfl, rfl, rfl⟩
  · refine mr_iload1 hG dX1_run_4 ?_
    refine mr_iconst hG 4 dX1_run_5 (by decide) ?_
    show G 6 _ _ _ _
    refine mr_icmp_le hG 11 dX1_run_6 (by decide) (fun c2 => ?_) (fun c2 => ?_)
    · exact absurd c2 (lt_nle (hx.resolve_left c))
    · refine mr_iconstm hG (-1) dX1_run_9 (by decide) ?_
      show G 10 _ _ _ _
      exact mr_iret hG dX1_run_10 ⟨rfl, rfl, rfl⟩
theorem ct_run {fi : Nat → Int32} {ar : Nat → Nat → Int32} {P B M r : Nat} {sz mf rf : Nat → Nat} {g : Nat → PL} (hr4 : r ≤ 4) (hP : fi 0 = nI P ∧ 1 ≤ P ∧ P ≤ 4) (hB : fi 1 = nI B ∧ 2 ≤ B ∧ B ≤ 8) (hM : fi 5 = nI M ∧ 1 ≤ M ∧ M ≤ 16) (hg : ∀ a, a < 64 → g a = one M (fi 6) (fi 7) (fi 8) (fi 9) r (ar 3 a) (ar 4 a)) (hsz : ∀ s, s < 4 → ar 2 s = nI (sz s) ∧ sz s ≤ 16) (hmf : ∀ i, i < 4 → ar 10 i = nI (mf i) ∧ mf i ≤ 3) (hrf : ∀ i, i < 4 → ar 11 i = nI (rf i) ∧ rf i ≤ 3) {gu : Bool} (hgu : gu = decide (6 < ssum (fun i => mf i + rf i) 4)) {hs : Nat → Bool} (hhs : hs = fun k => !gu && (fv r k none (LL g sz 4)).isSome) : mr_Con K1 yX1_run cX1_run 4 (some .int) 5 120 [.int (nI r)] fi ar (fun v fi' ar' => eqF [12, 13, 16, 17, 18, 27] fi fi' ∧ eqA [10, 11, 14, 15, 19, 20, 21, 22, 23, 24, 25, 26] ar ar' ∧ fi' 16 = nI (LL g sz 4).length ∧ Out P hs (fun k => gR r (fv r k none (LL g sz 4))) fi' ar' 64 ∧ (∀ q, q ≤ 4 → ar' 24 q = nI (ol P hs (16 * q)).length) ∧ (∀ i, i < 4 → ar' 10 i = nI 0 ∧ ar' 11 i = nI 0) ∧ v = if gu then -3 else nI (ol P hs 64).length) := by
  refine mr_con ok1 (by decide) rfl 2 rfl rfl ?_
  intro h ad G hG
  show G 0 [.ref h, .int (nI r), .null, .null] [] fi ar
  have hs4 : ssum (fun i => mf i + rf i) 4 ≤ 24 := by
    have a0 := (hmf 0 (by omega)).2
    have a1 := (hmf 1 (by omega)).2
    have a2 := (hmf 2 (by omega)).2
    have a3 := (hmf 3 (by omega)).2
    have b0 := (hrf 0 (by omega)).2
    have b1 := (hrf 1 (by omega)).2
    have b2 := (hrf 2 (by omega)).2
    have b3 := (hrf 3 (by omega)).2
    simp only [ssum]
    omega
  have go : ∀ l3, G 31 [.ref h, .int (nI r), .int (if gu then nI 1 else nI 0), l3] [] (upd fi 12 (nI r)) ar := by
    intro l3
    refine mr_aload0 hG dX1_run_31 ?_
    refine mr_iconst hG 0 dX1_run_32 (by decide) ?_
    refine f1_put_16 hG dX1_run_33 ?_
    refine mr_aload0 hG dX1_run_36 ?_
    refine mr_iconst hG 0 dX1_run_37 (by decide) ?_
    refine f1_put_17 hG dX1_run_38 ?_
    refine mr_aload0 hG dX1_run_41 ?_
    refine mr_iconst hG 0 dX1_run_42 (by decide) ?_
    refine f1_put_18 hG dX1_run_43 ?_
    refine mr_iconst hG 0 dX1_run_46 (by decide) ?_
    refine mr_istore3 hG dX1_run_47 ?_
    show G 48 _ _ _ _
    refine lp_run_map hG (fi1 := upd (upd (upd (upd fi 12 (nI r)) 16 (nI 0)) 17 (nI 0)) 18 (nI 0)) (ar0 := ar) (P := P) (B := B) (M := M) (r := r) (sz := sz) (mf := mf) (g := g) ⟨⟨hP.1, hP.2⟩, ⟨hB.1, hB.2⟩, ⟨hM.1, hM.2⟩, rfl, hr4⟩ hg hsz hmf ?_ 5 0 _ ar [] (by omega) (by omega) ⟨eqF.rf, eqA.rf, ⟨rfl, rfl, hold_nil, fun l hl => by simp at hl, fun s l hl => by simp at hl⟩, by simp, by simp, fun k o => rfl, rfl⟩
    intro fi2 ar2 sps hR
    obtain ⟨r1, r2, r3, r4, r5, r6, r7⟩ := hR
    have hval : (fun k => gR r (fv r k none sps.flatten)) = (fun k => gR r (fv r k none (LL g sz 4))) := by
      funext k
      rw [r6]
    refine mr_aload0 hG dX1_run_64 ?_
    refine mr_iconst hG 0 dX1_run_65 (by decide) ?_
    refine f1_put_27 hG dX1_run_66 ?_
    refine mr_iconst hG 0 dX1_run_69 (by decide) ?_
    refine mr_istore3 hG dX1_run_70 ?_
    show G 71 _ _ _ _
    have hF3 : eqF [12, 13, 16, 17, 18, 27] fi (upd fi2 27 (nI 0)) := by
      refine eqF.up (eqF.tr ?_ (r1.wk (by decide))) (by decide)
      exact eqF.up (eqF.up (eqF.up (eqF.up eqF.rf (by decide)) (by decide)) (by decide)) (by decide)
    refine lp_run_red hG (fi1 := upd fi2 27 (nI 0)) (ar0 := ar2) (P := P) (r := r) (rf := rf) (sps := sps) (gu := gu) (hs := hs) (by rw [hF3 0 (by decide)]; exact hP.1) hP.2.1 hP.2.2 ?_ hr4 ?_ (by omega) (by omega) (r3.eq (up_n (by decide)) (up_n (by decide)) rfl rfl rfl) ?_ ?_ ?_ 5 0 _ ar2 (by omega) (by omega) eqF.rf eqA.rf ⟨up_s, hold_nil⟩ (fun q hq => by omega) (fun i hi => by omega) ?_
    · rw [up_n (by decide), r1 12 (by decide)]; rfl
    · intro i hi
      rw [r2 11 (by decide)]; exact hrf i hi
    · intro e k hk
      rw [hhs, e]
      simp only [Bool.not_false, Bool.true_and]
      rw [← r6, fv_has]
      constructor
      · rintro ⟨x, hx, e2⟩
        obtain ⟨l, h1, h2⟩ := List.mem_flatten.mp hx
        exact ⟨l, h1, x, h2, e2⟩
      · rintro ⟨l, h1, x, h2, e2⟩
        exact ⟨x, List.mem_flatten.mpr ⟨l, h1, h2⟩, e2⟩
    · intro e
      rw [hhs, e]
      rfl
    · intro fi3 ar3 f1 f2 f3 f4 f5
      refine ⟨hF3.tr (f1.wk (by decide)), eqA.tr (r2.wk (by decide)) (f2.wk (by decide)), ?_, ?_, f4, f5, rfl⟩
      · rw [f1 16 (by decide), up_n (by decide)]; exact r7
      · rw [← hval]; exact f3
    · intro i hi hi4
      rw [r2 11 (by decide)]; exact (hrf i hi4).1
  refine mr_iload1 hG dX1_run_0 ?_
  show G 1 _ _ _ _
  refine mr_if_lt hG 9 dX1_run_1 (by decide) (fun c => absurd c (n_neg (by omega))) (fun c => ?_)
  refine mr_iload1 hG dX1_run_4 ?_
  refine mr_iconst hG 4 dX1_run_5 (by decide) ?_
  show G 6 _ _ _ _
  refine mr_icmp_leN hG 11 dX1_run_6 (by decide) (by omega) (by omega) (fun c2 => ?_) (fun c2 => ?_)
  · refine mr_aload0 hG dX1_run_11 ?_
    refine mr_iload1 hG dX1_run_12 ?_
    refine f1_put_12 hG dX1_run_13 ?_
    refine mr_aload0 hG dX1_run_16 ?_
    show G 17 _ _ _ _
    refine mr_calli hG (ct_failuresToCome mf rf (fun i hi => ⟨(hmf i hi).1, (hrf i hi).1⟩)) wd_failuresToCome co_failuresToCome (by decide) rfl (by decide) dX1_run_17 ?_
    rintro v fi2 ar2 ⟨rfl, rfl, rfl⟩
    refine mr_bipush hG (nI 6) dX1_run_20 (by decide) ?_
    show G 22 _ _ _ _
    refine mr_icmp_leN hG 29 dX1_run_22 (by decide) (by omega) (by omega) (fun c3 => ?_) (fun c3 => ?_)
    · refine mr_iconst hG 0 dX1_run_29 (by decide) ?_
      refine mr_istore2 hG dX1_run_30 ?_
      show G 31 _ _ _ _
      have e : gu = false := by rw [hgu]; simp; omega
      have key := go .null
      rw [e] at key
      exact key
    · refine mr_iconst hG 1 dX1_run_25 (by decide) ?_
      refine mr_goto hG 30 dX1_run_26 (by decide) ?_
      refine mr_istore2 hG dX1_run_30 ?_
      show G 31 _ _ _ _
      have e : gu = true := by rw [hgu]; simp; omega
      have key := go .null
      rw [e] at key
      exact key
  · omega
end Rn
end
section
set_option maxRecDepth 100000
set_option linter.unusedVariables false
/-! feedBack -/
/-- the keys of a part that have an output, in their order -/
def sgn (P : Nat) (hs : Nat → Bool) (s n : Nat) : List Nat := (List.range n).filter (fun k => hs k && decide (k % P = s))
def sg (P : Nat) (hs : Nat → Bool) (s : Nat) : List Nat := sgn P hs s 16
theorem sgn_s {P : Nat} {hs : Nat → Bool} {s n : Nat} : sgn P hs s (n + 1) = sgn P hs s n ++ (if hs n && decide (n % P = s) then [n] else []) := by
  unfold sgn
  rw [List.range_succ, List.filter_append]
  congr 1
  by_cases h : (hs n && decide (n % P = s)) = true
  · rw [if_pos h, List.filter_cons, if_pos h]
    rfl
  · rw [if_neg h, List.filter_cons, if_neg h]
    rfl
theorem ol_sgn {P : Nat} {hs : Nat → Bool} {s : Nat} : ∀ n, n ≤ 16 → ol P hs (16 * s + n) = ol P hs (16 * s) ++ sgn P hs s n
  | 0, _ => by simp [sgn]
  | n + 1, h => by
    have e1 : (16 * s + n) % 16 = n := by omega
    have e2 : (16 * s + n) / 16 = s := by omega
    have e : 16 * s + (n + 1) = 16 * s + n + 1 := by omega
    rw [e, ol_s, ol_sgn n (by omega), sgn_s, List.append_assoc]
    unfold okr
    rw [e1, e2]
theorem ol_sg {P : Nat} {hs : Nat → Bool} {s : Nat} : ol P hs (16 * (s + 1)) = ol P hs (16 * s) ++ sg P hs s := by
  have e : 16 * (s + 1) = 16 * s + 16 := by omega
  rw [e]
  exact ol_sgn 16 (by omega)
theorem ol_pre {P : Nat} {hs : Nat → Bool} {t : Nat} : ∀ n, ∃ r, ol P hs (t + n) = ol P hs t ++ r
  | 0 => ⟨[], by simp⟩
  | n + 1 => by
    obtain ⟨r, e⟩ := ol_pre (P := P) (hs := hs) (t := t) n
    have e2 : t + (n + 1) = t + n + 1 := by omega
    exact ⟨r ++ (if okr P hs (t + n) then [(t + n) % 16] else []), by rw [e2, ol_s, e, List.append_assoc]⟩
theorem sg_len {P : Nat} {hs : Nat → Bool} {s : Nat} : (sg P hs s).length ≤ 16 := by
  unfold sg sgn
  have := List.length_filter_le (fun k => hs k && decide (k % P = s)) (List.range 16)
  rw [List.length_range] at this
  exact this
theorem sg_mem {P : Nat} {hs : Nat → Bool} {s k : Nat} (h : k ∈ sg P hs s) : k < 16 ∧ hs k = true ∧ k % P = s := by
  unfold sg sgn at h
  rw [List.mem_filter, List.mem_range] at h
  simp only [Bool.and_eq_true, decide_eq_true_eq] at h
  exact ⟨h.1, h.2.1, h.2.2⟩
/-- the output of a part, in the output's arrays -/
theorem Out.seg {P : Nat} {hs : Nat → Bool} {val : Nat → Int32} {fi : Nat → Int32} {ar : Nat → Nat → Int32} (h : Out P hs val fi ar 64) {s : Nat} (hs4 : s < 4) : hold (ar 25) (ar 26) (ol P hs (16 * s)).length ((sg P hs s).map (fun k => (k, val k))) := by
  have h2 := h.2
  obtain ⟨r, e⟩ := ol_pre (P := P) (hs := hs) (t := 16 * (s + 1)) (64 - 16 * (s + 1))
  have e2 : 16 * (s + 1) + (64 - 16 * (s + 1)) = 64 := by omega
  rw [e2, ol_sg] at e
  rw [e, List.map_append, List.map_append, hold_app, hold_app, Nat.zero_add, List.length_map] at h2
  exact h2.1.2
section Fd
variable {Post : mr_PT} {h : Nat} {ad : Nat → Nat} {G : mr_GT} {fi : Nat → Int32}
theorem lp_fb_in (hG : mr_Cl K1 cX1_feedBack 5 (some .int) 0 0 Post h ad G) {s a : Nat} (hs3 : s < 4) {l : PL} (hl16 : l.length ≤ 16) (ha : a + l.length ≤ 16) :
    ∀ (C D : PL) (ar : Nat → Nat → Int32), D ++ C = l → hold (ar 25) (ar 26) (a + D.length) C → hold (ar 3) (ar 4) (16 * s) D → (∀ ar', hold (ar' 3) (ar' 4) (16 * s) l → eqA [3, 4] ar ar' → (∀ j, j < 16 * s → ar' 3 j = ar 3 j ∧ ar' 4 j = ar 4 j) → ∀ l4, G 90 [.ref h, .int (nI s), .int (nI a), .int (nI l.length), l4] [] fi ar') → G 36 [.ref h, .int (nI s), .int (nI a), .int (nI l.length), .int (nI D.length)] [] fi ar := by
  intro C
  induction C with
  | nil =>
    intro D ar hl hC hD hk
    have e : D = l := by rw [← hl]; simp
    subst e
    refine mr_iload4 hG dX1_feedBack_36 ?_
    refine mr_iload3 hG dX1_feedBack_38 ?_
    show G 39 _ _ _ _
    refine mr_icmp_geN hG 90 dX1_feedBack_39 (by decide) (by omega) (by omega) (fun c => ?_) (fun c => by omega)
    exact hk ar hD eqA.rf (fun _ _ => ⟨rfl, rfl⟩) _
  | cons e C ih =>
    intro D ar hl hC hD hk
    obtain ⟨k, v⟩ := e
    have hlen : D.length + (C.length + 1) = l.length := by rw [← hl]; simp
    obtain ⟨⟨h1, h2⟩, hC2⟩ := hold_cons.mp hC
    have hl1 : (D ++ [(k, v)]).length = D.length + 1 := by simp
    refine mr_iload4 hG dX1_feedBack_36 ?_
    refine mr_iload3 hG dX1_feedBack_38 ?_
    show G 39 _ _ _ _
    refine mr_icmp_geN hG 90 dX1_feedBack_39 (by decide) (by omega) (by omega) (fun c => by omega) (fun c => ?_)
    refine mr_aload0 hG dX1_feedBack_42 ?_
    refine f1_get_3 hG dX1_feedBack_43 ?_
    refine mr_bipush hG (nI 16) dX1_feedBack_46 (by decide) ?_
    refine mr_iload1 hG dX1_feedBack_48 ?_
    refine mr_imulN hG dX1_feedBack_49 ?_
    refine mr_iload4 hG dX1_feedBack_50 ?_
    refine mr_iaddN hG dX1_feedBack_52 ?_
    refine mr_aload0 hG dX1_feedBack_53 ?_
    refine f1_get_25 hG dX1_feedBack_54 ?_
    refine mr_iload2 hG dX1_feedBack_57 ?_
    refine mr_iload4 hG dX1_feedBack_58 ?_
    refine mr_iaddN hG dX1_feedBack_60 ?_
    refine f1_ld_25 hG dX1_feedBack_61 (a + D.length) rfl (by omega) ?_
    refine mr_top (h1) ?_
    refine f1_st_3 hG dX1_feedBack_62 (16 * s + D.length) rfl (by omega) rfl ?_
    show G 63 _ _ _ _
    refine mr_aload0 hG dX1_feedBack_63 ?_
    refine f1_get_4 hG dX1_feedBack_64 ?_
    refine mr_bipush hG (nI 16) dX1_feedBack_67 (by decide) ?_
    refine mr_iload1 hG dX1_feedBack_69 ?_
    refine mr_imulN hG dX1_feedBack_70 ?_
    refine mr_iload4 hG dX1_feedBack_71 ?_
    refine mr_iaddN hG dX1_feedBack_73 ?_
    refine mr_aload0 hG dX1_feedBack_74 ?_
    refine f1_get_26 hG dX1_feedBack_75 ?_
    refine mr_iload2 hG dX1_feedBack_78 ?_
    refine mr_iload4 hG dX1_feedBack_79 ?_
    refine mr_iaddN hG dX1_feedBack_81 ?_
    refine f1_ld_26 hG dX1_feedBack_82 (a + D.length) rfl (by omega) ?_
    refine mr_top ((by rw [ua_o (by decide)]; exact h2 : _ = v)) ?_
    refine f1_st_4 hG dX1_feedBack_83 (16 * s + D.length) rfl (by omega) rfl ?_
    refine mr_iincS4 hG dX1_feedBack_84 ?_
    refine mr_goto hG 36 dX1_feedBack_87 (by decide) ?_
    show G 36 _ _ _ _
    have key := ih (D ++ [(k, v)]) (ua (ua ar 3 (16 * s + D.length) (nI k)) 4 (16 * s + D.length) v) (by rw [← hl]; simp) ?_ ?_ ?_
    · rw [hl1] at key
      exact key
    · rw [hl1]
      exact hold_fr hC2 (fun j _ _ => ⟨by rw [ua_o (by decide), ua_o (by decide)], by rw [ua_o (by decide), ua_o (by decide)]⟩)
    · rw [hold_app]
      refine ⟨hold_fr hD (fun j j1 j2 => ⟨by rw [ua_o (by decide), ua_n (by omega)], by rw [ua_n (by omega), ua_o (by decide)]⟩), hold_cons.mpr ⟨⟨by rw [ua_o (by decide), ua_s], by rw [ua_s]⟩, hold_nil⟩⟩
    · intro ar' e1 e2 e3 l4
      refine hk ar' e1 (eqA.tr (eqA.up (eqA.up eqA.rf (by decide)) (by decide)) e2) (fun j hj => ?_) l4
      obtain ⟨q1, q2⟩ := e3 j hj
      rw [q1, q2]
      exact ⟨by rw [ua_o (by decide), ua_n (by omega)], by rw [ua_n (by omega), ua_o (by decide)]⟩
theorem lp_fb_out (hG : mr_Cl K1 cX1_feedBack 5 (some .int) 0 0 Post h ad G) {ar0 : Nat → Nat → Int32} {P : Nat} {hs : Nat → Bool} {val : Nat → Int32} (hO : Out P hs val fi ar0 64) (hst : ∀ q, q ≤ 4 → ar0 24 q = nI (ol P hs (16 * q)).length) (hk : ∀ ar, eqA [2, 3, 4] ar0 ar → (∀ s, s < 4 → ar 2 s = nI (sg P hs s).length ∧ hold (ar 3) (ar 4) (16 * s) ((sg P hs s).map (fun k => (k, val k)))) → Post (nI (ol P hs 64).length) fi ar) :
    ∀ (n s : Nat) (ar : Nat → Nat → Int32) (l2 l3 l4 : Value), s ≤ 4 → 4 < s + n → eqA [2, 3, 4] ar0 ar → (∀ s', s' < s → ar 2 s' = nI (sg P hs s').length ∧ hold (ar 3) (ar 4) (16 * s') ((sg P hs s').map (fun k => (k, val k)))) → G 2 [.ref h, .int (nI s), l2, l3, l4] [] fi ar := by
  intro n
  induction n with
  | zero => intro s ar l2 l3 l4 h1 h2; omega
  | succ n ih =>
    intro s ar l2 l3 l4 h1 h2 hA hD
    refine mr_iload1 hG dX1_feedBack_2 ?_
    refine mr_iconst hG 4 dX1_feedBack_3 (by decide) ?_
    show G 4 _ _ _ _
    refine mr_icmp_geN hG 96 dX1_feedBack_4 (by decide) (by omega) (by omega) (fun c => ?_) (fun c => ?_)
    · have e : s = 4 := by omega
      subst e
      refine mr_aload0 hG dX1_feedBack_96 ?_
      refine f1_get_27 hG dX1_feedBack_97 ?_
      refine mr_top (hO.1) ?_
      show G 100 _ _ _ _
      exact mr_iret hG dX1_feedBack_100 (hk ar hA hD)
    · have o1 := ol_16 (P := P) (hs := hs) (16 * s)
      have o2 := ol_16 (P := P) (hs := hs) (16 * (s + 1))
      have o3 : (ol P hs (16 * (s + 1))).length = (ol P hs (16 * s)).length + (sg P hs s).length := by rw [ol_sg, List.length_append]
      have o4 := sg_len (P := P) (hs := hs) (s := s)
      have a1 : ar 24 s = nI (ol P hs (16 * s)).length := by rw [hA 24 (by decide)]; exact hst s (by omega)
      have a2 : ar 24 (s + 1) = nI (ol P hs (16 * (s + 1))).length := by rw [hA 24 (by decide)]; exact hst (s + 1) (by omega)
      have a3 : (ol P hs (16 * (s + 1))).length - (ol P hs (16 * s)).length = (sg P hs s).length := by omega
      refine mr_aload0 hG dX1_feedBack_7 ?_
      refine f1_get_24 hG dX1_feedBack_8 ?_
      refine mr_iload1 hG dX1_feedBack_11 ?_
      refine f1_ld_24 hG dX1_feedBack_12 s rfl (by omega) ?_
      refine mr_top (a1) ?_
      refine mr_istore2 hG dX1_feedBack_13 ?_
      refine mr_aload0 hG dX1_feedBack_14 ?_
      refine f1_get_24 hG dX1_feedBack_15 ?_
      refine mr_iload1 hG dX1_feedBack_18 ?_
      refine mr_iconst hG 1 dX1_feedBack_19 (by decide) ?_
      refine mr_iaddN hG dX1_feedBack_20 ?_
      refine f1_ld_24 hG dX1_feedBack_21 (s + 1) rfl (by omega) ?_
      refine mr_top (a2) ?_
      refine mr_iload2 hG dX1_feedBack_22 ?_
      refine mr_isubN hG dX1_feedBack_23 (by omega) ?_
      show G 24 _ _ _ _
      rw [a3]
      refine mr_istore3 hG dX1_feedBack_24 ?_
      refine mr_aload0 hG dX1_feedBack_25 ?_
      refine f1_get_2 hG dX1_feedBack_26 ?_
      refine mr_iload1 hG dX1_feedBack_29 ?_
      refine mr_iload3 hG dX1_feedBack_30 ?_
      refine mr_i2b hG dX1_feedBack_31 (i8 _ (by omega)) ?_
      refine f1_st_2 hG dX1_feedBack_32 s rfl (by omega) (nar_b (by omega)) ?_
      refine mr_iconst hG 0 dX1_feedBack_33 (by decide) ?_
      refine mr_istore4 hG dX1_feedBack_34 ?_
      show G 36 _ _ _ _
      have hseg := hO.seg c
      have hl0 : ((sg P hs s).map (fun k => (k, val k))).length = (sg P hs s).length := List.length_map _
      have key := lp_fb_in (s := s) (a := (ol P hs (16 * s)).length) (fi := fi) hG (by omega) (l := (sg P hs s).map (fun k => (k, val k))) (by rw [hl0]; omega) (by rw [hl0]; omega) ((sg P hs s).map (fun k => (k, val k))) [] (ua ar 2 s (nI (sg P hs s).length)) rfl ?_ hold_nil ?_
      · rw [hl0] at key
        exact key
      · rw [ua_o (by decide), ua_o (by decide), hA 25 (by decide), hA 26 (by decide)]
        exact hseg
      · intro ar' e1 e2 e3 l4'
        refine mr_iincS1 hG dX1_feedBack_90 ?_
        refine mr_goto hG 2 dX1_feedBack_93 (by decide) ?_
        show G 2 _ _ _ _
        refine ih (s + 1) ar' _ _ _ (by omega) (by omega) (eqA.tr (eqA.up hA (by decide)) (e2.wk (by decide))) (fun s' hs' => ?_)
        by_cases e9 : s' = s
        · subst e9
          exact ⟨by rw [e2 2 (by decide), ua_s], e1⟩
        · obtain ⟨d1, d2⟩ := hD s' (by omega)
          refine ⟨by rw [e2 2 (by decide), ua_n e9]; exact d1, hold_fr d2 (fun j j1 j2 => ?_)⟩
          rw [List.length_map] at j2
          have := sg_len (P := P) (hs := hs) (s := s')
          obtain ⟨q1, q2⟩ := e3 j (by omega)
          rw [q1, q2, ua_o (by decide), ua_o (by decide)]
          exact ⟨rfl, rfl⟩
theorem ct_feedBack {ar : Nat → Nat → Int32} {P : Nat} {hs : Nat → Bool} {val : Nat → Int32} (hO : Out P hs val fi ar 64) (hst : ∀ q, q ≤ 4 → ar 24 q = nI (ol P hs (16 * q)).length) : mr_Con K1 yX1_feedBack cX1_feedBack 5 (some .int) 0 0 [] fi ar (fun v fi' ar' => fi' = fi ∧ eqA [2, 3, 4] ar ar' ∧ (∀ s, s < 4 → ar' 2 s = nI (sg P hs s).length ∧ hold (ar' 3) (ar' 4) (16 * s) ((sg P hs s).map (fun k => (k, val k)))) ∧ v = nI (ol P hs 64).length) := by
  refine mr_con ok1 (by decide) rfl 4 rfl rfl ?_
  intro h ad G hG
  show G 0 [.ref h, .null, .null, .null, .null] [] fi ar
  refine mr_iconst hG 0 dX1_feedBack_0 (by decide) ?_
  refine mr_istore1 hG dX1_feedBack_1 ?_
  show G 2 _ _ _ _
  exact lp_fb_out hG hO hst (fun ar' e1 e2 => ⟨rfl, e1, e2, rfl⟩) 5 0 ar _ _ _ (by omega) (by omega) eqA.rf (fun s' hs' => by omega)
end Fd
end
section
set_option maxRecDepth 100000
set_option linter.unusedVariables false
/-! MapReduceRunModel: the simple methods -/
section Mod1
variable {fi : Nat → Int32} {ar : Nat → Nat → Int32}
theorem cm_addRecord_bad {s k v : Int32} (hs : s < 0 ∨ nI 3 < s) : mr_Con K2 yX2_addRecord cX2_addRecord 4 (some .int) 0 0 [.int s, .int k, .int v] fi ar (fun r fi' ar' => fi' = fi ∧ ar' = ar ∧ r = -1) := by
  refine mr_con ok2 (by decide) rfl 0 rfl rfl ?_
  intro h ad G hG
  show G 0 [.ref h, .int s, .int k, .int v] [] fi ar
  refine mr_iload1 hG dX2_addRecord_0 ?_
  show G 1 _ _ _ _
  refine mr_if_lt hG 9 dX2_addRecord_1 (by decide) (fun b1 => ?_) (fun b1 => ?_)
  · refine mr_iconstm hG (-1) dX2_addRecord_9 (by decide) ?_
    show G 10 _ _ _ _
    exact mr_iret hG dX2_addRecord_10 ⟨rfl, rfl, rfl⟩
  · refine mr_iload1 hG dX2_addRecord_4 ?_
    refine mr_iconst hG 3 dX2_addRecord_5 (by decide) ?_
    show G 6 _ _ _ _
    refine mr_icmp_le hG 11 dX2_addRecord_6 (by decide) (fun c2 => ?_) (fun c2 => ?_)
    · exact absurd c2 (lt_nle (hs.resolve_left b1))
    · refine mr_iconstm hG (-1) dX2_addRecord_9 (by decide) ?_
      show G 10 _ _ _ _
      exact mr_iret hG dX2_addRecord_10 ⟨rfl, rfl, rfl⟩
theorem cm_addRecord_full {j : Nat} {k v : Int32} (hj : j < 4) (hc : ar 1 j = nI 16) : mr_Con K2 yX2_addRecord cX2_addRecord 4 (some .int) 0 0 [.int (nI j), .int k, .int v] fi ar (fun r fi' ar' => fi' = fi ∧ ar' = ar ∧ r = -2) := by
  refine mr_con ok2 (by decide) rfl 0 rfl rfl ?_
  intro h ad G hG
  show G 0 [.ref h, .int (nI j), .int k, .int v] [] fi ar
  refine mr_iload1 hG dX2_addRecord_0 ?_
  show G 1 _ _ _ _
  refine mr_if_lt hG 9 dX2_addRecord_1 (by decide) (fun b1 => ?_) (fun b1 => ?_)
  · exact absurd b1 (n_neg (by omega))
  · refine mr_iload1 hG dX2_addRecord_4 ?_
    refine mr_iconst hG 3 dX2_addRecord_5 (by decide) ?_
    show G 6 _ _ _ _
    refine mr_icmp_leN hG 11 dX2_addRecord_6 (by decide) (by omega) (by omega) (fun c2 => ?_) (fun c2 => ?_)
    · refine mr_aload0 hG dX2_addRecord_11 ?_
      refine f2_get_1 hG dX2_addRecord_12 ?_
      refine mr_iload1 hG dX2_addRecord_15 ?_
      refine f2_ld_1 hG dX2_addRecord_16 j rfl hj ?_
      refine mr_top (hc) ?_
      refine mr_bipush hG (nI 16) dX2_addRecord_17 (by decide) ?_
      show G 19 _ _ _ _
      refine mr_icmp_neN hG 25 dX2_addRecord_19 (by decide) (by omega) (by omega) (fun c3 => ?_) (fun c3 => ?_)
      · omega
      · refine mr_bipush hG (-2) dX2_addRecord_22 (by decide) ?_
        show G 24 _ _ _ _
        exact mr_iret hG dX2_addRecord_24 ⟨rfl, rfl, rfl⟩
    · omega
theorem cm_addRecord_ok {j c : Nat} {k v : Int32} (hj : j < 4) (hc : ar 1 j = nI c) (h16 : c < 16) : mr_Con K2 yX2_addRecord cX2_addRecord 4 (some .int) 0 0 [.int (nI j), .int k, .int v] fi ar (fun r fi' ar' => fi' = fi ∧ ar' = ua (ua (ua ar 2 (16 * j + c) k) 3 (16 * j + c) v) 1 j (nI (c + 1)) ∧ r = nI (c + 1)) := by
  refine mr_con ok2 (by decide) rfl 0 rfl rfl ?_
  intro h ad G hG
  show G 0 [.ref h, .int (nI j), .int k, .int v] [] fi ar
  refine mr_iload1 hG dX2_addRecord_0 ?_
  show G 1 _ _ _ _
  refine mr_if_lt hG 9 dX2_addRecord_1 (by decide) (fun b1 => ?_) (fun b1 => ?_)
  · exact absurd b1 (n_neg (by omega))
  · refine mr_iload1 hG dX2_addRecord_4 ?_
    refine mr_iconst hG 3 dX2_addRecord_5 (by decide) ?_
    show G 6 _ _ _ _
    refine mr_icmp_leN hG 11 dX2_addRecord_6 (by decide) (by omega) (by omega) (fun c2 => ?_) (fun c2 => ?_)
    · refine mr_aload0 hG dX2_addRecord_11 ?_
      refine f2_get_1 hG dX2_addRecord_12 ?_
      refine mr_iload1 hG dX2_addRecord_15 ?_
      refine f2_ld_1 hG dX2_addRecord_16 j rfl hj ?_
      refine mr_top (hc) ?_
      refine mr_bipush hG (nI 16) dX2_addRecord_17 (by decide) ?_
      show G 19 _ _ _ _
      refine mr_icmp_neN hG 25 dX2_addRecord_19 (by decide) (by omega) (by omega) (fun c3 => ?_) (fun c3 => ?_)
      · refine mr_aload0 hG dX2_addRecord_25 ?_
        refine f2_get_2 hG dX2_addRecord_26 ?_
        refine mr_bipush hG (nI 16) dX2_addRecord_29 (by decide) ?_
        refine mr_iload1 hG dX2_addRecord_31 ?_
        refine mr_imulN hG dX2_addRecord_32 ?_
        refine mr_aload0 hG dX2_addRecord_33 ?_
        refine f2_get_1 hG dX2_addRecord_34 ?_
        refine mr_iload1 hG dX2_addRecord_37 ?_
        refine f2_ld_1 hG dX2_addRecord_38 j rfl hj ?_
        refine mr_top (hc) ?_
        refine mr_iaddN hG dX2_addRecord_39 ?_
        refine mr_iload2 hG dX2_addRecord_40 ?_
        refine f2_st_2 hG dX2_addRecord_41 (16 * j + c) rfl (by omega) rfl ?_
        show G 42 _ _ _ _
        refine mr_aload0 hG dX2_addRecord_42 ?_
        refine f2_get_3 hG dX2_addRecord_43 ?_
        refine mr_bipush hG (nI 16) dX2_addRecord_46 (by decide) ?_
        refine mr_iload1 hG dX2_addRecord_48 ?_
        refine mr_imulN hG dX2_addRecord_49 ?_
        refine mr_aload0 hG dX2_addRecord_50 ?_
        refine f2_get_1 hG dX2_addRecord_51 ?_
        refine mr_iload1 hG dX2_addRecord_54 ?_
        refine f2_ld_1 hG dX2_addRecord_55 j rfl hj ?_
        refine mr_top ((by rw [ua_o (by decide)]; exact hc : _ = nI c)) ?_
        refine mr_iaddN hG dX2_addRecord_56 ?_
        refine mr_iload3 hG dX2_addRecord_57 ?_
        refine f2_st_3 hG dX2_addRecord_58 (16 * j + c) rfl (by omega) rfl ?_
        show G 59 _ _ _ _
        refine mr_aload0 hG dX2_addRecord_59 ?_
        refine f2_get_1 hG dX2_addRecord_60 ?_
        refine mr_iload1 hG dX2_addRecord_63 ?_
        refine mr_dup2 hG dX2_addRecord_64 rfl rfl ?_
        refine f2_ld_1 hG dX2_addRecord_65 j rfl hj ?_
        refine mr_top ((by rw [ua_o (by decide), ua_o (by decide)]; exact hc : _ = nI c)) ?_
        refine mr_iconst hG 1 dX2_addRecord_66 (by decide) ?_
        refine mr_iaddN hG dX2_addRecord_67 ?_
        refine f2_st_1 hG dX2_addRecord_68 j rfl hj rfl ?_
        refine mr_aload0 hG dX2_addRecord_69 ?_
        refine f2_get_1 hG dX2_addRecord_70 ?_
        refine mr_iload1 hG dX2_addRecord_73 ?_
        refine f2_ld_1 hG dX2_addRecord_74 j rfl hj ?_
        refine mr_top (ua_s) ?_
        show G 75 _ _ _ _
        exact mr_iret hG dX2_addRecord_75 ⟨rfl, rfl, rfl⟩
      · omega
    · omega
theorem cm_mapping_bad {m f o : Int32} (hs : m < nI 1 ∨ nI 16 < m) : mr_Con K2 yX2_mapping cX2_mapping 4 (some .boolean) 0 0 [.int m, .int f, .int o] fi ar (fun r fi' ar' => fi' = fi ∧ ar' = ar ∧ r = nI 0) := by
  refine mr_con ok2 (by decide) rfl 0 rfl rfl ?_
  intro h ad G hG
  show G 0 [.ref h, .int m, .int f, .int o] [] fi ar
  refine mr_iload1 hG dX2_mapping_0 ?_
  refine mr_iconst hG 1 dX2_mapping_1 (by decide) ?_
  show G 2 _ _ _ _
  refine mr_icmp_lt hG 11 dX2_mapping_2 (by decide) (fun c => ?_) (fun c => ?_)
  · refine mr_iconst hG 0 dX2_mapping_11 (by decide) ?_
    show G 12 _ _ _ _
    exact mr_zret hG dX2_mapping_12 nz0 ⟨rfl, rfl, rfl⟩
  · refine mr_iload1 hG dX2_mapping_5 ?_
    refine mr_bipush hG (nI 16) dX2_mapping_6 (by decide) ?_
    show G 8 _ _ _ _
    refine mr_icmp_le hG 13 dX2_mapping_8 (by decide) (fun c2 => ?_) (fun c2 => ?_)
    · exact absurd c2 (lt_nle (hs.resolve_left c))
    · refine mr_iconst hG 0 dX2_mapping_11 (by decide) ?_
      show G 12 _ _ _ _
      exact mr_zret hG dX2_mapping_12 nz0 ⟨rfl, rfl, rfl⟩
theorem cm_mapping_ok {m : Nat} {f o : Int32} (h1 : 1 ≤ m) (h16 : m ≤ 16) : mr_Con K2 yX2_mapping cX2_mapping 4 (some .boolean) 0 0 [.int (nI m), .int f, .int o] fi ar (fun r fi' ar' => fi' = upd (upd (upd fi 4 (nI m)) 5 f) 6 o ∧ ar' = ar ∧ r = nI 1) := by
  refine mr_con ok2 (by decide) rfl 0 rfl rfl ?_
  intro h ad G hG
  show G 0 [.ref h, .int (nI m), .int f, .int o] [] fi ar
  refine mr_iload1 hG dX2_mapping_0 ?_
  refine mr_iconst hG 1 dX2_mapping_1 (by decide) ?_
  show G 2 _ _ _ _
  refine mr_icmp_ltN hG 11 dX2_mapping_2 (by decide) (by omega) (by omega) (fun c => ?_) (fun c => ?_)
  · omega
  · refine mr_iload1 hG dX2_mapping_5 ?_
    refine mr_bipush hG (nI 16) dX2_mapping_6 (by decide) ?_
    show G 8 _ _ _ _
    refine mr_icmp_leN hG 13 dX2_mapping_8 (by decide) (by omega) (by omega) (fun c2 => ?_) (fun c2 => ?_)
    · refine mr_aload0 hG dX2_mapping_13 ?_
      refine mr_iload1 hG dX2_mapping_14 ?_
      refine f2_put_4 hG dX2_mapping_15 ?_
      refine mr_aload0 hG dX2_mapping_18 ?_
      refine mr_iload2 hG dX2_mapping_19 ?_
      refine f2_put_5 hG dX2_mapping_20 ?_
      refine mr_aload0 hG dX2_mapping_23 ?_
      refine mr_iload3 hG dX2_mapping_24 ?_
      refine f2_put_6 hG dX2_mapping_25 ?_
      refine mr_iconst hG 1 dX2_mapping_28 (by decide) ?_
      show G 29 _ _ _ _
      exact mr_zret hG dX2_mapping_29 nz1 ⟨rfl, rfl, rfl⟩
    · omega
theorem cm_bounds {a b : Int32} : mr_Con K2 yX2_bounds cX2_bounds 3 none 0 0 [.int a, .int b] fi ar (fun r fi' ar' => fi' = upd (upd fi 7 a) 8 b ∧ ar' = ar) := by
  refine mr_con ok2 (by decide) rfl 0 rfl rfl ?_
  intro h ad G hG
  show G 0 [.ref h, .int a, .int b] [] fi ar
  refine mr_aload0 hG dX2_bounds_0 ?_
  refine mr_iload1 hG dX2_bounds_1 ?_
  refine f2_put_7 hG dX2_bounds_2 ?_
  refine mr_aload0 hG dX2_bounds_5 ?_
  refine mr_iload2 hG dX2_bounds_6 ?_
  refine f2_put_8 hG dX2_bounds_7 ?_
  show G 10 _ _ _ _
  exact mr_vret hG dX2_bounds_10 ⟨rfl, rfl⟩
theorem cm_failures_bad {P : Nat} {z i t : Int32} (hP : fi 0 = nI P) (hP4 : P ≤ 4) (hs : (i < 0 ∨ nI 3 < i) ∨ (t < 0 ∨ nI 3 < t)) : mr_Con K2 yX2_failures cX2_failures 4 (some .boolean) 0 0 [.int z, .int i, .int t] fi ar (fun r fi' ar' => fi' = fi ∧ ar' = ar ∧ r = nI 0) := by
  refine mr_con ok2 (by decide) rfl 0 rfl rfl ?_
  intro h ad G hG
  show G 0 [.ref h, .int z, .int i, .int t] [] fi ar
  have no : G 29 [.ref h, .int z, .int i, .int t] [] fi ar := by
    refine mr_iconst hG 0 dX2_failures_29 (by decide) ?_
    show G 30 _ _ _ _
    exact mr_zret hG dX2_failures_30 nz0 ⟨rfl, rfl, rfl⟩
  have rest : (t < 0 ∨ nI 3 < t) → G 20 [.ref h, .int z, .int i, .int t] [] fi ar := by
    intro ht
    refine mr_iload3 hG dX2_failures_20 ?_
    show G 21 _ _ _ _
    refine mr_if_lt hG 29 dX2_failures_21 (by decide) (fun c3 => ?_) (fun c3 => ?_)
    · exact no
    · refine mr_iload3 hG dX2_failures_24 ?_
      refine mr_iconst hG 3 dX2_failures_25 (by decide) ?_
      show G 26 _ _ _ _
      refine mr_icmp_le hG 31 dX2_failures_26 (by decide) (fun c4 => ?_) (fun c4 => ?_)
      · exact absurd c4 (lt_nle (ht.resolve_left c3))
      · exact no
  refine mr_iload2 hG dX2_failures_0 ?_
  show G 1 _ _ _ _
  refine mr_if_lt hG 29 dX2_failures_1 (by decide) (fun c => ?_) (fun c => ?_)
  · exact no
  · refine mr_iload2 hG dX2_failures_4 ?_
    refine mr_iload1 hG dX2_failures_5 ?_
    show G 6 _ _ _ _
    refine mr_if_eq hG 16 dX2_failures_6 (by decide) (fun c2 => ?_) (fun c2 => ?_)
    · refine mr_iconst hG 4 dX2_failures_16 (by decide) ?_
      show G 17 _ _ _ _
      refine mr_icmp_ge hG 29 dX2_failures_17 (by decide) (fun c3 => ?_) (fun c3 => ?_)
      · exact no
      · refine rest (hs.resolve_left (fun h9 => ?_))
        rcases h9 with h9 | h9
        · exact c h9
        · apply c3
          rw [i_le, nI_toInt (by omega)]
          rw [i_lt, nI_toInt (by omega)] at h9
          omega
    · refine mr_aload0 hG dX2_failures_9 ?_
      refine f2_get_0 hG dX2_failures_10 ?_
      refine mr_top (hP) ?_
      refine mr_goto hG 17 dX2_failures_13 (by decide) ?_
      show G 17 _ _ _ _
      refine mr_icmp_ge hG 29 dX2_failures_17 (by decide) (fun c3 => ?_) (fun c3 => ?_)
      · exact no
      · refine rest (hs.resolve_left (fun h9 => ?_))
        rcases h9 with h9 | h9
        · exact c h9
        · apply c3
          rw [i_le, nI_toInt (by omega)]
          rw [i_lt, nI_toInt (by omega)] at h9
          omega
theorem cm_failures_map {i t : Nat} (hi : i ≤ 3) (ht : t ≤ 3) : mr_Con K2 yX2_failures cX2_failures 4 (some .boolean) 0 0 [.int (nI 0), .int (nI i), .int (nI t)] fi ar (fun r fi' ar' => fi' = fi ∧ ar' = ua ar 9 i (nI t) ∧ r = nI 1) := by
  refine mr_con ok2 (by decide) rfl 0 rfl rfl ?_
  intro h ad G hG
  show G 0 [.ref h, .int (nI 0), .int (nI i), .int (nI t)] [] fi ar
  refine mr_iload2 hG dX2_failures_0 ?_
  show G 1 _ _ _ _
  refine mr_if_lt hG 29 dX2_failures_1 (by decide) (fun c => ?_) (fun c => ?_)
  · exact absurd c (n_neg (by omega))
  · refine mr_iload2 hG dX2_failures_4 ?_
    refine mr_iload1 hG dX2_failures_5 ?_
    show G 6 _ _ _ _
    refine mr_if_eq hG 16 dX2_failures_6 (by decide) (fun c2 => ?_) (fun c2 => absurd nI_0 c2)
    refine mr_iconst hG 4 dX2_failures_16 (by decide) ?_
    show G 17 _ _ _ _
    refine mr_icmp_geN hG 29 dX2_failures_17 (by decide) (by omega) (by omega) (fun c3 => ?_) (fun c3 => ?_)
    · omega
    · refine mr_iload3 hG dX2_failures_20 ?_
      show G 21 _ _ _ _
      refine mr_if_lt hG 29 dX2_failures_21 (by decide) (fun c4 => ?_) (fun c4 => ?_)
      · exact absurd c4 (n_neg (by omega))
      · refine mr_iload3 hG dX2_failures_24 ?_
        refine mr_iconst hG 3 dX2_failures_25 (by decide) ?_
        show G 26 _ _ _ _
        refine mr_icmp_leN hG 31 dX2_failures_26 (by decide) (by omega) (by omega) (fun c5 => ?_) (fun c5 => ?_)
        · refine mr_aload0 hG dX2_failures_31 ?_
          refine f2_get_9 hG dX2_failures_32 ?_
          refine mr_iload1 hG dX2_failures_35 ?_
          show G 36 _ _ _ _
          refine mr_if_eq hG 45 dX2_failures_36 (by decide) (fun c6 => ?_) (fun c6 => absurd nI_0 c6)
          refine mr_iload2 hG dX2_failures_45 ?_
          refine mr_iload3 hG dX2_failures_46 ?_
          refine f2_st_9 hG dX2_failures_47 i rfl (by omega) rfl ?_
          refine mr_iconst hG 1 dX2_failures_48 (by decide) ?_
          show G 49 _ _ _ _
          exact mr_zret hG dX2_failures_49 nz1 ⟨rfl, rfl, rfl⟩
        · omega
theorem cm_failures_red {P i t : Nat} (hP : fi 0 = nI P) (hP4 : P ≤ 4) (hi : i ≤ 3) (ht : t ≤ 3) : mr_Con K2 yX2_failures cX2_failures 4 (some .boolean) 0 0 [.int (nI 1), .int (nI i), .int (nI t)] fi ar (fun r fi' ar' => fi' = fi ∧ (P ≤ i → ar' = ar ∧ r = nI 0) ∧ (i < P → ar' = ua ar 9 (4 + i) (nI t) ∧ r = nI 1)) := by
  refine mr_con ok2 (by decide) rfl 0 rfl rfl ?_
  intro h ad G hG
  show G 0 [.ref h, .int (nI 1), .int (nI i), .int (nI t)] [] fi ar
  refine mr_iload2 hG dX2_failures_0 ?_
  show G 1 _ _ _ _
  refine mr_if_lt hG 29 dX2_failures_1 (by decide) (fun c => ?_) (fun c => ?_)
  · exact absurd c (n_neg (by omega))
  · refine mr_iload2 hG dX2_failures_4 ?_
    refine mr_iload1 hG dX2_failures_5 ?_
    show G 6 _ _ _ _
    refine mr_if_eq hG 16 dX2_failures_6 (by decide) (fun c2 => absurd c2 (by decide)) (fun c2 => ?_)
    refine mr_aload0 hG dX2_failures_9 ?_
    refine f2_get_0 hG dX2_failures_10 ?_
    refine mr_top (hP) ?_
    refine mr_goto hG 17 dX2_failures_13 (by decide) ?_
    show G 17 _ _ _ _
    refine mr_icmp_geN hG 29 dX2_failures_17 (by decide) (by omega) (by omega) (fun c3 => ?_) (fun c3 => ?_)
    · refine mr_iconst hG 0 dX2_failures_29 (by decide) ?_
      show G 30 _ _ _ _
      exact mr_zret hG dX2_failures_30 nz0 ⟨rfl, fun _ => ⟨rfl, rfl⟩, fun h9 => by omega⟩
    · refine mr_iload3 hG dX2_failures_20 ?_
      show G 21 _ _ _ _
      refine mr_if_lt hG 29 dX2_failures_21 (by decide) (fun c4 => ?_) (fun c4 => ?_)
      · exact absurd c4 (n_neg (by omega))
      · refine mr_iload3 hG dX2_failures_24 ?_
        refine mr_iconst hG 3 dX2_failures_25 (by decide) ?_
        show G 26 _ _ _ _
        refine mr_icmp_leN hG 31 dX2_failures_26 (by decide) (by omega) (by omega) (fun c5 => ?_) (fun c5 => ?_)
        · refine mr_aload0 hG dX2_failures_31 ?_
          refine f2_get_9 hG dX2_failures_32 ?_
          refine mr_iload1 hG dX2_failures_35 ?_
          show G 36 _ _ _ _
          refine mr_if_eq hG 45 dX2_failures_36 (by decide) (fun c6 => absurd c6 (by decide)) (fun c6 => ?_)
          refine mr_iconst hG 4 dX2_failures_39 (by decide) ?_
          refine mr_iload2 hG dX2_failures_40 ?_
          refine mr_iaddN hG dX2_failures_41 ?_
          refine mr_goto hG 46 dX2_failures_42 (by decide) ?_
          show G 46 _ _ _ _
          refine mr_iload3 hG dX2_failures_46 ?_
          refine f2_st_9 hG dX2_failures_47 (4 + i) rfl (by omega) rfl ?_
          refine mr_iconst hG 1 dX2_failures_48 (by decide) ?_
          show G 49 _ _ _ _
          exact mr_zret hG dX2_failures_49 nz1 ⟨rfl, fun h9 => by omega, fun _ => ⟨rfl, rfl⟩⟩
        · omega
theorem cm_mapped : mr_Con K2 yX2_mapped cX2_mapped 1 (some .int) 0 0 [] fi ar (fun r fi' ar' => fi' = fi ∧ ar' = ar ∧ r = fi 12) := by
  refine mr_con ok2 (by decide) rfl 0 rfl rfl ?_
  intro h ad G hG
  show G 0 [.ref h] [] fi ar
  refine mr_aload0 hG dX2_mapped_0 ?_
  refine f2_get_12 hG dX2_mapped_1 ?_
  show G 4 _ _ _ _
  exact mr_iret hG dX2_mapped_4 ⟨rfl, rfl, rfl⟩
theorem cm_emptySplit_bad {s : Int32} (hs : s < 0 ∨ nI 3 < s) : mr_Con K2 yX2_emptySplit cX2_emptySplit 3 (some .int) 0 0 [.int s] fi ar (fun r fi' ar' => fi' = fi ∧ ar' = ar ∧ r = -1) := by
  refine mr_con ok2 (by decide) rfl 1 rfl rfl ?_
  intro h ad G hG
  show G 0 [.ref h, .int s, .null] [] fi ar
  refine mr_iload1 hG dX2_emptySplit_0 ?_
  show G 1 _ _ _ _
  refine mr_if_lt hG 9 dX2_emptySplit_1 (by decide) (fun c => ?_) (fun c => ?_)
  · refine mr_iconstm hG (-1) dX2_emptySplit_9 (by decide) ?_
    show G 10 _ _ _ _
    exact mr_iret hG dX2_emptySplit_10 ⟨rfl, rfl, rfl⟩
  · refine mr_iload1 hG dX2_emptySplit_4 ?_
    refine mr_iconst hG 3 dX2_emptySplit_5 (by decide) ?_
    show G 6 _ _ _ _
    refine mr_icmp_le hG 11 dX2_emptySplit_6 (by decide) (fun c2 => ?_) (fun c2 => ?_)
    · exact absurd c2 (lt_nle (hs.resolve_left c))
    · refine mr_iconstm hG (-1) dX2_emptySplit_9 (by decide) ?_
      show G 10 _ _ _ _
      exact mr_iret hG dX2_emptySplit_10 ⟨rfl, rfl, rfl⟩
theorem cm_emptySplit_ok {j : Nat} (hj : j < 4) : mr_Con K2 yX2_emptySplit cX2_emptySplit 3 (some .int) 0 0 [.int (nI j)] fi ar (fun r fi' ar' => fi' = fi ∧ ar' = ua ar 1 j (nI 0) ∧ r = ar 1 j) := by
  refine mr_con ok2 (by decide) rfl 1 rfl rfl ?_
  intro h ad G hG
  show G 0 [.ref h, .int (nI j), .null] [] fi ar
  refine mr_iload1 hG dX2_emptySplit_0 ?_
  show G 1 _ _ _ _
  refine mr_if_lt hG 9 dX2_emptySplit_1 (by decide) (fun c => ?_) (fun c => ?_)
  · exact absurd c (n_neg (by omega))
  · refine mr_iload1 hG dX2_emptySplit_4 ?_
    refine mr_iconst hG 3 dX2_emptySplit_5 (by decide) ?_
    show G 6 _ _ _ _
    refine mr_icmp_leN hG 11 dX2_emptySplit_6 (by decide) (by omega) (by omega) (fun c2 => ?_) (fun c2 => ?_)
    · refine mr_aload0 hG dX2_emptySplit_11 ?_
      refine f2_get_1 hG dX2_emptySplit_12 ?_
      refine mr_iload1 hG dX2_emptySplit_15 ?_
      refine f2_ld_1 hG dX2_emptySplit_16 j rfl hj ?_
      refine mr_istore2 hG dX2_emptySplit_17 ?_
      refine mr_aload0 hG dX2_emptySplit_18 ?_
      refine f2_get_1 hG dX2_emptySplit_19 ?_
      refine mr_iload1 hG dX2_emptySplit_22 ?_
      refine mr_iconst hG 0 dX2_emptySplit_23 (by decide) ?_
      refine f2_st_1 hG dX2_emptySplit_24 j rfl hj rfl ?_
      refine mr_iload2 hG dX2_emptySplit_25 ?_
      show G 26 _ _ _ _
      exact mr_iret hG dX2_emptySplit_26 ⟨rfl, rfl, rfl⟩
    · omega
/-- does the record at a place count? -/
def cts (sz : Nat → Nat) (lo hi : Int32) (vl : Nat → Int32) (a : Nat) : Bool := decide (a % 16 < sz (a / 16)) && (!decide (vl a < lo) && decide (vl a ≤ hi))
theorem cm_counts {sz : Nat → Nat} (hsz : ∀ s, s < 4 → ar 1 s = nI (sz s) ∧ sz s ≤ 16) {a : Nat} (ha : a < 64) : mr_Con K2 yX2_counts cX2_counts 2 (some .boolean) 0 0 [.int (nI a)] fi ar (fun r fi' ar' => fi' = fi ∧ ar' = ar ∧ r = if cts sz (fi 7) (fi 8) (ar 3) a then nI 1 else nI 0) := by
  refine mr_con ok2 (by decide) rfl 0 rfl rfl ?_
  intro h ad G hG
  show G 0 [.ref h, .int (nI a)] [] fi ar
  have e1 : nI a &&& nI 15 = nI (a % 16) := pk_andN (by omega) 4 (by decide)
  have e2 : nI a >>> (nI 4 &&& 31) = nI (a / 16) := pk_shrN (by omega) (nI 4 &&& 31) 4 (by decide)
  obtain ⟨z1, z2⟩ := hsz (a / 16) (by omega)
  have no : cts sz (fi 7) (fi 8) (ar 3) a = false → G 45 [.ref h, .int (nI a)] [] fi ar := by
    intro e
    refine mr_iconst hG 0 dX2_counts_45 (by decide) ?_
    show G 46 _ _ _ _
    exact mr_zret hG dX2_counts_46 nz0 ⟨rfl, rfl, by rw [e]; rfl⟩
  refine mr_iload1 hG dX2_counts_0 ?_
  refine mr_bipush hG (nI 15) dX2_counts_1 (by decide) ?_
  refine mr_iand hG dX2_counts_3 ?_
  refine mr_top (e1) ?_
  refine mr_aload0 hG dX2_counts_4 ?_
  refine f2_get_1 hG dX2_counts_5 ?_
  refine mr_iload1 hG dX2_counts_8 ?_
  refine mr_iconst hG 4 dX2_counts_9 (by decide) ?_
  refine mr_ishr hG dX2_counts_10 ?_
  refine mr_top (e2) ?_
  refine f2_ld_1 hG dX2_counts_11 (a / 16) rfl (by omega) ?_
  refine mr_top (z1) ?_
  show G 12 _ _ _ _
  refine mr_icmp_geN hG 45 dX2_counts_12 (by decide) (by omega) (by omega) (fun c => ?_) (fun c => ?_)
  · refine no ?_
    have : ¬ a % 16 < sz (a / 16) := by omega
    simp [cts, this]
  · refine mr_aload0 hG dX2_counts_15 ?_
    refine f2_get_3 hG dX2_counts_16 ?_
    refine mr_iload1 hG dX2_counts_19 ?_
    refine f2_ld_3 hG dX2_counts_20 a rfl (by omega) ?_
    refine mr_aload0 hG dX2_counts_21 ?_
    refine f2_get_7 hG dX2_counts_22 ?_
    show G 25 _ _ _ _
    refine mr_icmp_lt hG 45 dX2_counts_25 (by decide) (fun c2 => ?_) (fun c2 => ?_)
    · refine no ?_
      simp [cts, c2]
    · refine mr_aload0 hG dX2_counts_28 ?_
      refine f2_get_3 hG dX2_counts_29 ?_
      refine mr_iload1 hG dX2_counts_32 ?_
      refine f2_ld_3 hG dX2_counts_33 a rfl (by omega) ?_
      refine mr_aload0 hG dX2_counts_34 ?_
      refine f2_get_8 hG dX2_counts_35 ?_
      show G 38 _ _ _ _
      refine mr_icmp_gt hG 45 dX2_counts_38 (by decide) (fun c3 => ?_) (fun c3 => ?_)
      · refine no ?_
        have := lt_nle c3
        simp [cts, this]
      · refine mr_iconst hG 1 dX2_counts_41 (by decide) ?_
        refine mr_goto hG 46 dX2_counts_42 (by decide) ?_
        show G 46 _ _ _ _
        refine mr_zret hG dX2_counts_46 nz1 ⟨rfl, rfl, ?_⟩
        have := nlt_le c3
        simp [cts, c, c2, this]
theorem cm_keyOf {M : Nat} (hM : fi 4 = nI M) (hM1 : 1 ≤ M) (hM16 : M ≤ 16) {a : Nat} (ha : a < 64) : mr_Con K2 yX2_keyOf cX2_keyOf 3 (some .int) 0 0 [.int (nI a)] fi ar (fun r fi' ar' => fi' = fi ∧ ar' = ar ∧ r = nI (km M (ar 2 a))) := by
  refine mr_con ok2 (by decide) rfl 1 rfl rfl ?_
  intro h ad G hG
  show G 0 [.ref h, .int (nI a), .null] [] fi ar
  have hkm := km_spec hM1 hM16 (ar 2 a)
  refine mr_aload0 hG dX2_keyOf_0 ?_
  refine f2_get_2 hG dX2_keyOf_1 ?_
  refine mr_iload1 hG dX2_keyOf_4 ?_
  refine f2_ld_2 hG dX2_keyOf_5 a rfl (by omega) ?_
  refine mr_aload0 hG dX2_keyOf_6 ?_
  refine f2_get_4 hG dX2_keyOf_7 ?_
  refine mr_top (hM) ?_
  refine mr_iconst hG 1 dX2_keyOf_10 (by decide) ?_
  show G 11 _ _ _ _
  refine mr_icmp_geN hG 18 dX2_keyOf_11 (by decide) (by omega) (by omega) (fun c => ?_) (fun c => ?_)
  · refine mr_aload0 hG dX2_keyOf_18 ?_
    refine f2_get_4 hG dX2_keyOf_19 ?_
    refine mr_top (hM) ?_
    show G 22 _ _ _ _
    refine mr_irem hG dX2_keyOf_22 (nI_ne0 (by omega) (by omega)) ?_
    show G 23 _ (.int (kq M (ar 2 a)) :: _) _ _
    refine mr_istore2 hG dX2_keyOf_23 ?_
    refine mr_iload2 hG dX2_keyOf_24 ?_
    show G 25 _ _ _ _
    refine mr_if_ge hG 37 dX2_keyOf_25 (by decide) (fun c3 => ?_) (fun c3 => ?_)
    · refine mr_iload2 hG dX2_keyOf_37 ?_
      show G 38 _ _ _ _
      exact mr_iret hG dX2_keyOf_38 ⟨rfl, rfl, hkm.1 c3⟩
    · refine mr_iload2 hG dX2_keyOf_28 ?_
      refine mr_aload0 hG dX2_keyOf_29 ?_
      refine f2_get_4 hG dX2_keyOf_30 ?_
      refine mr_top (hM) ?_
      refine mr_iadd hG dX2_keyOf_33 ?_
      refine mr_goto hG 38 dX2_keyOf_34 (by decide) ?_
      show G 38 _ _ _ _
      exact mr_iret hG dX2_keyOf_38 ⟨rfl, rfl, hkm.2.1 c3⟩
  · omega
end Mod1
end
section
set_option maxRecDepth 100000
set_option linter.unusedVariables false
/-! MapReduceRunModel: reduce -/
/-- the pairs of the first a places -/
def Lp (g : Nat → PL) (sz : Nat → Nat) : Nat → PL
  | 0 => []
  | a + 1 => Lp g sz a ++ (if a % 16 < sz (a / 16) then g a else [])
theorem Lp_s {g : Nat → PL} {sz : Nat → Nat} {a : Nat} : Lp g sz (a + 1) = Lp g sz a ++ (if a % 16 < sz (a / 16) then g a else []) := rfl
theorem Lp_in {g : Nat → PL} {sz : Nat → Nat} {s : Nat} : ∀ n, n ≤ 16 → Lp g sz (16 * s + n) = Lp g sz (16 * s) ++ pr g (16 * s) (min n (sz s))
  | 0, _ => by simp [pr]
  | n + 1, h => by
    have e1 : (16 * s + n) % 16 = n := by omega
    have e2 : (16 * s + n) / 16 = s := by omega
    have e : 16 * s + (n + 1) = 16 * s + n + 1 := by omega
    rw [e, Lp_s, Lp_in n (by omega), e1, e2]
    by_cases hlt : n < sz s
    · rw [if_pos hlt]
      have m1 : min n (sz s) = n := by omega
      have m2 : min (n + 1) (sz s) = n + 1 := by omega
      rw [m1, m2, pr_s, List.append_assoc]
    · rw [if_neg hlt]
      have m1 : min n (sz s) = sz s := by omega
      have m2 : min (n + 1) (sz s) = sz s := by omega
      rw [m1, m2, List.append_nil]
theorem Lp_LL {g : Nat → PL} {sz : Nat → Nat} (hz : ∀ s, s < 4 → sz s ≤ 16) : ∀ s, s ≤ 4 → Lp g sz (16 * s) = LL g sz s
  | 0, _ => rfl
  | s + 1, h => by
    have e : 16 * (s + 1) = 16 * s + 16 := by omega
    have m1 : min 16 (sz s) = sz s := by have := hz s (by omega); omega
    rw [e, Lp_in 16 (by omega), m1, Lp_LL hz s (by omega), LL_s]
theorem Lp_64 {g : Nat → PL} {sz : Nat → Nat} (hz : ∀ s, s < 4 → sz s ≤ 16) : Lp g sz 64 = LL g sz 4 := Lp_LL hz 4 (by omega)
theorem Lp_congr {g g' : Nat → PL} {sz : Nat → Nat} : ∀ n, (∀ a, a < n → a % 16 < sz (a / 16) → g a = g' a) → Lp g sz n = Lp g' sz n
  | 0, _ => rfl
  | n + 1, h => by
    rw [Lp_s, Lp_s, Lp_congr n (fun a ha hb => h a (by omega) hb)]
    by_cases hlt : n % 16 < sz (n / 16)
    · rw [if_pos hlt, if_pos hlt, h n (by omega) hlt]
    · rw [if_neg hlt, if_neg hlt]
theorem Lp_map {g g' : Nat → PL} {sz : Nat → Nat} {f : Nat × Int32 → Nat × Int32} : ∀ n, (∀ a, a < n → g' a = (g a).map f) → Lp g' sz n = (Lp g sz n).map f
  | 0, _ => rfl
  | n + 1, h => by
    rw [Lp_s, Lp_s, Lp_map n (fun a ha => h a (by omega)), List.map_append]
    by_cases hlt : n % 16 < sz (n / 16)
    · rw [if_pos hlt, if_pos hlt, h n (by omega)]
    · rw [if_neg hlt, if_neg hlt]; rfl
def cn (k : Nat) (l : PL) : Nat := l.countP (fun e => e.1 == k)
theorem cn_app {k : Nat} {a b : PL} : cn k (a ++ b) = cn k a + cn k b := List.countP_append
theorem cn_one {k q : Nat} {w : Int32} : cn k [(q, w)] = if q = k then 1 else 0 := by
  unfold cn
  by_cases h : q = k
  · simp [h]
  · simp [h]
theorem cn_has {r k : Nat} {l : PL} : (fv r k none l).isSome = true ↔ 0 < cn k l := by
  rw [fv_has]
  unfold cn
  rw [List.countP_pos_iff]
  constructor
  · rintro ⟨e, h1, h2⟩; exact ⟨e, h1, by simpa using h2⟩
  · rintro ⟨e, h1, h2⟩; exact ⟨e, h1, by simpa using h2⟩
theorem cn_le {k : Nat} {l : PL} : cn k l ≤ l.length := List.countP_le_length
theorem cn_map {k : Nat} {l : PL} {f : Nat × Int32 → Nat × Int32} (hf : ∀ e, (f e).1 = e.1) : cn k (l.map f) = cn k l := by
  unfold cn
  rw [List.countP_map]
  congr 1
  funext e
  simp [hf]
theorem fv_1 {r k q : Nat} {w : Int32} {l : PL} : fv r k none (l ++ [(q, w)]) = if q = k then some (stp r (fv r k none l) w) else fv r k none l := by
  rw [fv_app]
  rfl
theorem gR_none {r : Nat} : gR r none = ini r := rfl
theorem gR_some {r : Nat} {a : Int32} : gR r (some a) = a := rfl
theorem st_add {r : Nat} (h1 : r ≠ 1) (h2 : r ≠ 2) (h4 : r ≠ 4) {o : Option Int32} {w : Int32} : stp r o w = gR r o + w := by
  unfold stp gR ini
  rw [if_neg h4, if_neg h4]
  cases o with
  | none =>
    show w = nI 0 + w
    rw [nI_0, Int32.zero_add]
  | some a =>
    show comb r a w = a + w
    unfold comb
    rw [if_neg h1, if_neg h2]
theorem mx_keep {a w : Int32} (h : w ≤ a) : stp 1 (some a) w = a := by
  rw [stp_s (by decide)]
  unfold comb
  simp only [if_true]
  by_cases h2 : a ≤ w
  · rw [if_pos h2]
    rw [i_le] at h h2
    exact Int32.toInt_inj.mp (by omega)
  · rw [if_neg h2]
theorem mx_new {a w : Int32} (h : ¬ w ≤ a) : stp 1 (some a) w = w := by
  rw [stp_s (by decide)]
  unfold comb
  simp only [if_true]
  rw [if_pos]
  rw [i_le] at h ⊢
  omega
theorem mn_keep {a w : Int32} (h : a ≤ w) : stp 2 (some a) w = a := by
  rw [stp_s (by decide)]
  unfold comb
  rw [if_neg (by decide), if_pos rfl]
  by_cases h2 : w ≤ a
  · rw [if_pos h2]
    rw [i_le] at h h2
    exact Int32.toInt_inj.mp (by omega)
  · rw [if_neg h2]
theorem mn_new {a w : Int32} (h : ¬ a ≤ w) : stp 2 (some a) w = w := by
  rw [stp_s (by decide)]
  unfold comb
  rw [if_neg (by decide), if_pos rfl, if_pos]
  rw [i_le] at h ⊢
  omega
theorem tally {k : Nat} : ∀ (l : PL) (o : Option Int32), gR 3 (fv 3 k o (l.map (fun e => (e.1, nI 1)))) = gR 3 o + nI (cn k l)
  | [], o => by
    show gR 3 o = gR 3 o + nI 0
    rw [nI_0, Int32.add_zero]
  | e :: l, o => by
    rw [List.map_cons, fv_cons, tally l]
    have hc : cn k (e :: l) = (if e.1 = k then 1 else 0) + cn k l := by
      have : e :: l = [(e.1, e.2)] ++ l := rfl
      rw [this, cn_app, cn_one]
    rw [hc]
    by_cases h : e.1 = k
    · simp only [h, if_true]
      rw [gR_some, st_add (by decide) (by decide) (by decide), Int32.add_assoc, nI_add]
    · simp only [h, if_false]
      rw [Nat.zero_add]
theorem one_cts {M : Nat} {F O lo hi : Int32} {r : Nat} {ky vl : Nat → Int32} {sz : Nat → Nat} {a : Nat} : (if a % 16 < sz (a / 16) then one M F O lo hi r (ky a) (vl a) else []) = if cts sz lo hi vl a then [(km M (ky a), if r = 3 then nI 1 else F * vl a + O)] else [] := by
  unfold cts one
  by_cases h1 : a % 16 < sz (a / 16)
  · by_cases h2 : vl a < lo
    · simp [h1, h2]
    · by_cases h3 : vl a ≤ hi
      · simp [h1, h2, h3]
      · simp [h1, h2, h3]
  · simp [h1]
theorem co_counts {a : Value} : mr_callok K2 yX2_counts [a] := ⟨rfl, by decide, by decide, by show _ = some 1; decide +kernel⟩
theorem wd_counts : GoodIn lw_all (wsV K2.1 53 K2.1 yX2_counts (ws_ yX2_counts cX2_counts 2 (some .boolean))) := lw_V q284 q286 qs13 q18 q287
theorem co_keyOf {a : Value} : mr_callok K2 yX2_keyOf [a] := ⟨rfl, by decide, by decide, by show _ = some 1; decide +kernel⟩
theorem wd_keyOf : GoodIn lw_all (wsV K2.1 57 K2.1 yX2_keyOf (ws_ yX2_keyOf cX2_keyOf 3 (some .int))) := lw_V q292 q294 qs15 q18 q295
section MRed
variable {Post : mr_PT} {h : Nat} {ad : Nat → Nat} {G : mr_GT} {fi : Nat → Int32} {ar : Nat → Nat → Int32}
theorem lp_mred (hG : mr_Cl K2 cX2_reduce 10 (some .int) 1 22 Post h ad G) {M r key : Nat} {sz : Nat → Nat} (hM : fi 4 = nI M) (hM1 : 1 ≤ M) (hM16 : M ≤ 16) (hsz : ∀ s, s < 4 → ar 1 s = nI (sz s) ∧ sz s ≤ 16) (hkey : key < 16) {g0 : Nat → PL} (hg0 : ∀ a, a < 64 → g0 a = one M (fi 5) (fi 6) (fi 7) (fi 8) 0 (ar 2 a) (ar 3 a))
    (hk : ∀ l9, G 119 [.ref h, .int (nI r), .int (nI key), .int (gR 4 (fv 4 key none (Lp g0 sz 64))), .int (gR 0 (fv 0 key none (Lp g0 sz 64))), .int (nI (cn key (Lp g0 sz 64))), .int (gR 1 (fv 1 key none (Lp g0 sz 64))), .int (gR 2 (fv 2 key none (Lp g0 sz 64))), .int (nI 64), l9] [] fi ar) :
    ∀ (n a : Nat) (l9 : Value), a ≤ 64 → 64 < a + n → cn key (Lp g0 sz a) ≤ a → G 18 [.ref h, .int (nI r), .int (nI key), .int (gR 4 (fv 4 key none (Lp g0 sz a))), .int (gR 0 (fv 0 key none (Lp g0 sz a))), .int (nI (cn key (Lp g0 sz a))), .int (gR 1 (fv 1 key none (Lp g0 sz a))), .int (gR 2 (fv 2 key none (Lp g0 sz a))), .int (nI a), l9] [] fi ar := by
  intro n
  induction n with
  | zero => intro a l9 h1 h2; omega
  | succ n ih =>
    intro a l9 h1 h2 hcn
    refine mr_iload8 hG dX2_reduce_18 ?_
    refine mr_bipush hG (nI 64) dX2_reduce_20 (by decide) ?_
    show G 22 _ _ _ _
    refine mr_icmp_geN hG 119 dX2_reduce_22 (by decide) (by omega) (by omega) (fun c => ?_) (fun c => ?_)
    · have e : a = 64 := by omega
      subst e
      exact hk l9
    · have hstep : Lp g0 sz (a + 1) = Lp g0 sz a ++ (if cts sz (fi 7) (fi 8) (ar 3) a then [(km M (ar 2 a), fi 5 * ar 3 a + fi 6)] else []) := by
        rw [Lp_s, hg0 a c, one_cts]
        rfl
      have next : ∀ l9', cn key (Lp g0 sz (a + 1)) ≤ a + 1 → G 113 [.ref h, .int (nI r), .int (nI key), .int (gR 4 (fv 4 key none (Lp g0 sz (a + 1)))), .int (gR 0 (fv 0 key none (Lp g0 sz (a + 1)))), .int (nI (cn key (Lp g0 sz (a + 1)))), .int (gR 1 (fv 1 key none (Lp g0 sz (a + 1)))), .int (gR 2 (fv 2 key none (Lp g0 sz (a + 1)))), .int (nI a), l9'] [] fi ar := by
        intro l9' hc1
        refine mr_iincS8 hG dX2_reduce_113 ?_
        refine mr_goto hG 18 dX2_reduce_116 (by decide) ?_
        show G 18 _ _ _ _
        exact ih (a + 1) l9' (by omega) (by omega) hc1
      refine mr_aload0 hG dX2_reduce_25 ?_
      refine mr_iload8 hG dX2_reduce_26 ?_
      show G 28 _ _ _ _
      refine mr_calli hG (cm_counts hsz c) wd_counts co_counts (by decide) rfl (by decide) dX2_reduce_28 ?_
      rintro v fi' ar' ⟨rfl, rfl, rfl⟩
      cases hct : cts sz (fi' 7) (fi' 8) (ar' 3) a with
      | false =>
        rw [hct] at hstep
        simp only [Bool.false_eq_true, if_false, List.append_nil] at hstep
        rw [hstep] at next
        refine mr_if_eq hG 113 dX2_reduce_31 (by decide) (fun c2 => ?_) (fun c2 => absurd (show (nI 0 : Int32) = 0 by decide) c2)
        exact next l9 (by omega)
      | true =>
        rw [hct] at hstep
        simp only [if_true] at hstep
        refine mr_if_eq hG 113 dX2_reduce_31 (by decide) (fun c2 => absurd c2 (by decide)) (fun c2 => ?_)
        refine mr_aload0 hG dX2_reduce_34 ?_
        refine mr_iload8 hG dX2_reduce_35 ?_
        show G 37 _ _ _ _
        refine mr_calli hG (cm_keyOf hM hM1 hM16 c) wd_keyOf co_keyOf (by decide) rfl (by decide) dX2_reduce_37 ?_
        rintro v fi2 ar2 ⟨rfl, rfl, rfl⟩
        have hkm := (km_spec hM1 hM16 (ar2 2 a)).2.2
        generalize hw : fi2 5 * ar2 3 a + fi2 6 = w at hstep
        generalize hl : Lp g0 sz a = l at hstep next hcn
        refine mr_iload2 hG dX2_reduce_40 ?_
        show G 41 _ _ _ _
        refine mr_icmp_neN hG 113 dX2_reduce_41 (by decide) (by omega) (by omega) (fun c3 => ?_) (fun c3 => ?_)
        · have f1 : ∀ r, fv r key none (Lp g0 sz (a + 1)) = fv r key none l := fun r => by rw [hstep, fv_1, if_neg c3]
          have f2 : cn key (Lp g0 sz (a + 1)) = cn key l := by rw [hstep, cn_app, cn_one, if_neg c3]; rfl
          rw [f1, f1, f1, f1, f2] at next
          exact next l9 (by omega)
        · have f1 : ∀ r, fv r key none (Lp g0 sz (a + 1)) = some (stp r (fv r key none l) w) := fun r => by rw [hstep, fv_1, if_pos c3]
          have f2 : cn key (Lp g0 sz (a + 1)) = cn key l + 1 := by rw [hstep, cn_app, cn_one, if_pos c3]
          rw [f1, f1, f1, f1, f2] at next
          have t0 : gR 0 (some (stp 0 (fv 0 key none l) w)) = gR 0 (fv 0 key none l) + w := st_add (r := 0) (by decide) (by decide) (by decide)
          have t4 : gR 4 (some (stp 4 (fv 4 key none l) w)) = nI 31 * gR 4 (fv 4 key none l) + w := stp_4
          rw [t0, t4] at next
          have hs1 : (fv 1 key none l).isSome = true ↔ 0 < cn key l := cn_has
          have hs2 : (fv 2 key none l).isSome = true ↔ 0 < cn key l := cn_has
          generalize gR 0 (fv 0 key none l) = s0 at next ⊢
          generalize gR 4 (fv 4 key none l) = s4 at next ⊢
          generalize fv 1 key none l = o1 at next hs1 ⊢
          generalize fv 2 key none l = o2 at next hs2 ⊢
          generalize cn key l = nn at next hs1 hs2 hcn ⊢
          refine mr_aload0 hG dX2_reduce_44 ?_
          refine f2_get_5 hG dX2_reduce_45 ?_
          refine mr_aload0 hG dX2_reduce_48 ?_
          refine f2_get_3 hG dX2_reduce_49 ?_
          refine mr_iload8 hG dX2_reduce_52 ?_
          refine f2_ld_3 hG dX2_reduce_54 a rfl (by omega) ?_
          refine mr_imul hG dX2_reduce_55 ?_
          refine mr_aload0 hG dX2_reduce_56 ?_
          refine f2_get_6 hG dX2_reduce_57 ?_
          refine mr_iadd hG dX2_reduce_60 ?_
          show G 61 _ _ _ _
          rw [hw]
          refine mr_istore9 hG dX2_reduce_61 ?_
          refine mr_iload4 hG dX2_reduce_63 ?_
          refine mr_iload9 hG dX2_reduce_65 ?_
          refine mr_iadd hG dX2_reduce_67 ?_
          refine mr_istore4 hG dX2_reduce_68 ?_
          refine mr_bipush hG (nI 31) dX2_reduce_70 (by decide) ?_
          refine mr_iload3 hG dX2_reduce_72 ?_
          refine mr_imul hG dX2_reduce_73 ?_
          refine mr_iload9 hG dX2_reduce_74 ?_
          refine mr_iadd hG dX2_reduce_76 ?_
          refine mr_istore3 hG dX2_reduce_77 ?_
          refine mr_iload5 hG dX2_reduce_78 ?_
          show G 80 _ _ _ _
          have t110 : G 110 [.ref h, .int (nI r), .int (nI key), .int (nI 31 * s4 + w), .int (s0 + w), .int (nI nn), .int (gR 1 (some (stp 1 o1 w))), .int (gR 2 (some (stp 2 o2 w))), .int (nI a), .int w] [] fi2 ar2 := by
            refine mr_iincS5 hG dX2_reduce_110 ?_
            show G 113 _ _ _ _
            exact next (.int w) (by omega)
          have t94 : G 94 [.ref h, .int (nI r), .int (nI key), .int (nI 31 * s4 + w), .int (s0 + w), .int (nI nn), .int (gR 1 (some (stp 1 o1 w))), .int (gR 2 o2), .int (nI a), .int w] [] fi2 ar2 := by
            refine mr_iload5 hG dX2_reduce_94 ?_
            show G 96 _ _ _ _
            refine mr_if_eq hG 106 dX2_reduce_96 (by decide) (fun d1 => ?_) (fun d1 => ?_)
            · have hn0 : nn = 0 := by
                rcases Nat.eq_zero_or_pos nn with z | z
                · exact z
                · exact absurd d1 (nI_ne0 z (by omega))
              have ho : o2 = none := by
                cases o2 with
                | none => rfl
                | some x => exact absurd (hs2.mp rfl) (by omega)
              subst ho
              refine mr_iload9 hG dX2_reduce_106 ?_
              refine mr_istore7 hG dX2_reduce_108 ?_
              show G 110 _ _ _ _
              rw [gR_some (r := 2), stp_n (by decide)] at t110
              exact t110
            · have hn0 : 0 < nn := by
                rcases Nat.eq_zero_or_pos nn with z | z
                · subst z; exact absurd nI_0 d1
                · exact z
              obtain ⟨x, ho⟩ := Option.isSome_iff_exists.mp (hs2.mpr hn0)
              subst ho
              refine mr_iload9 hG dX2_reduce_99 ?_
              refine mr_iload7 hG dX2_reduce_101 ?_
              show G 103 _ _ _ _
              refine mr_icmp_ge hG 110 dX2_reduce_103 (by decide) (fun d2 => ?_) (fun d2 => ?_)
              · rw [gR_some (r := 2), mn_keep (a := x) d2] at t110
                exact t110
              · refine mr_iload9 hG dX2_reduce_106 ?_
                refine mr_istore7 hG dX2_reduce_108 ?_
                show G 110 _ _ _ _
                rw [gR_some (r := 2), mn_new (a := x) d2] at t110
                exact t110
          refine mr_if_eq hG 90 dX2_reduce_80 (by decide) (fun d1 => ?_) (fun d1 => ?_)
          · have hn0 : nn = 0 := by
              rcases Nat.eq_zero_or_pos nn with z | z
              · exact z
              · exact absurd d1 (nI_ne0 z (by omega))
            have ho : o1 = none := by
              cases o1 with
              | none => rfl
              | some x => exact absurd (hs1.mp rfl) (by omega)
            subst ho
            refine mr_iload9 hG dX2_reduce_90 ?_
            refine mr_istore6 hG dX2_reduce_92 ?_
            show G 94 _ _ _ _
            rw [gR_some (r := 1), stp_n (by decide)] at t94
            exact t94
          · have hn0 : 0 < nn := by
              rcases Nat.eq_zero_or_pos nn with z | z
              · subst z; exact absurd nI_0 d1
              · exact z
            obtain ⟨x, ho⟩ := Option.isSome_iff_exists.mp (hs1.mpr hn0)
            subst ho
            refine mr_iload9 hG dX2_reduce_83 ?_
            refine mr_iload6 hG dX2_reduce_85 ?_
            show G 87 _ _ _ _
            refine mr_icmp_le hG 94 dX2_reduce_87 (by decide) (fun d2 => ?_) (fun d2 => ?_)
            · rw [gR_some (r := 1), mx_keep (a := x) d2] at t94
              exact t94
            · refine mr_iload9 hG dX2_reduce_90 ?_
              refine mr_istore6 hG dX2_reduce_92 ?_
              show G 94 _ _ _ _
              rw [gR_some (r := 1), mx_new (a := x) d2] at t94
              exact t94
theorem cm_reduce {M r key : Nat} {sz : Nat → Nat} {g : Nat → PL} (hr4 : r ≤ 4) (hM : fi 4 = nI M) (hM1 : 1 ≤ M) (hM16 : M ≤ 16) (hsz : ∀ s, s < 4 → ar 1 s = nI (sz s) ∧ sz s ≤ 16) (hkey : key < 16) (hg : ∀ a, a < 64 → g a = one M (fi 5) (fi 6) (fi 7) (fi 8) r (ar 2 a) (ar 3 a)) : mr_Con K2 yX2_reduce cX2_reduce 10 (some .int) 1 22 [.int (nI r), .int (nI key)] fi ar (fun v fi' ar' => fi' = fi ∧ ar' = ua ar 10 key (if (fv r key none (LL g sz 4)).isSome then nI 1 else nI 0) ∧ v = gR r (fv r key none (LL g sz 4))) := by
  have hz : ∀ s, s < 4 → sz s ≤ 16 := fun s hs => (hsz s hs).2
  rw [← Lp_64 hz]
  have hlen : ∀ (g : Nat → PL), (∀ a, a < 64 → (g a).length ≤ 1) → ∀ n, n ≤ 64 → (Lp g sz n).length ≤ n := by
    intro g hg1 n
    induction n with
    | zero => intro _; exact Nat.le_refl 0
    | succ n ih =>
      intro hn
      have h1 := ih (by omega)
      have h2 := hg1 n (by omega)
      rw [Lp_s, List.length_append]
      by_cases hlt : n % 16 < sz (n / 16)
      · rw [if_pos hlt]; omega
      · rw [if_neg hlt]; simp only [List.length_nil]; omega
  obtain ⟨g0, hg0⟩ : ∃ g0 : Nat → PL, ∀ a, g0 a = one M (fi 5) (fi 6) (fi 7) (fi 8) 0 (ar 2 a) (ar 3 a) := ⟨fun a => one M (fi 5) (fi 6) (fi 7) (fi 8) 0 (ar 2 a) (ar 3 a), fun _ => rfl⟩
  have hl0 : (Lp g0 sz 64).length ≤ 64 := hlen g0 (fun a _ => by rw [hg0]; exact one_len _ _ _ _ _ _ _ _) 64 (by omega)
  have hcn0 : cn key (Lp g0 sz 64) ≤ 64 := Nat.le_trans cn_le hl0
  have hne3 : r ≠ 3 → Lp g sz 64 = Lp g0 sz 64 := fun h3 => Lp_congr 64 (fun a ha _ => by
    rw [hg a ha, hg0]
    unfold one
    simp only [h3, if_false]
    rfl)
  have h3 : r = 3 → Lp g sz 64 = (Lp g0 sz 64).map (fun e => (e.1, nI 1)) := fun h3 => Lp_map 64 (fun a ha => by
    rw [hg a ha, hg0]
    unfold one
    simp only [h3, if_true]
    split
    · rfl
    · split
      · rfl
      · rfl)
  have hcn : cn key (Lp g sz 64) = cn key (Lp g0 sz 64) := by
    by_cases e : r = 3
    · rw [h3 e]
      exact cn_map (fun _ => rfl)
    · rw [hne3 e]
  refine mr_con ok2 (by decide) rfl 7 rfl rfl ?_
  intro h ad G hG
  show G 0 [.ref h, .int (nI r), .int (nI key), .null, .null, .null, .null, .null, .null, .null] [] fi ar
  refine mr_bipush hG (nI 7) dX2_reduce_0 (by decide) ?_
  refine mr_istore3 hG dX2_reduce_2 ?_
  refine mr_iconst hG 0 dX2_reduce_3 (by decide) ?_
  refine mr_istore4 hG dX2_reduce_4 ?_
  refine mr_iconst hG 0 dX2_reduce_6 (by decide) ?_
  refine mr_istore5 hG dX2_reduce_7 ?_
  refine mr_iconst hG 0 dX2_reduce_9 (by decide) ?_
  refine mr_istore6 hG dX2_reduce_10 ?_
  refine mr_iconst hG 0 dX2_reduce_12 (by decide) ?_
  refine mr_istore7 hG dX2_reduce_13 ?_
  refine mr_iconst hG 0 dX2_reduce_15 (by decide) ?_
  refine mr_istore8 hG dX2_reduce_16 ?_
  show G 18 _ _ _ _
  refine lp_mred hG hM hM1 hM16 hsz hkey (g0 := g0) (fun a _ => hg0 a) ?_ 65 0 .null (by omega) (by omega) (Nat.le_refl 0)
  intro l9
  generalize hiff : (if (fv r key none (Lp g sz 64)).isSome then nI 1 else nI 0) = hv at hG
  have hhv : 0 < cn key (Lp g0 sz 64) → hv = nI 1 := fun z => by
    rw [← hiff, if_pos]
    rw [cn_has, hcn]
    exact z
  have hhv0 : ¬ 0 < cn key (Lp g0 sz 64) → hv = nI 0 := fun z => by
    rw [← hiff, if_neg]
    rw [cn_has, hcn]
    exact z
  have fin : G 135 [.ref h, .int (nI r), .int (nI key), .int (gR 4 (fv 4 key none (Lp g0 sz 64))), .int (gR 0 (fv 0 key none (Lp g0 sz 64))), .int (nI (cn key (Lp g0 sz 64))), .int (gR 1 (fv 1 key none (Lp g0 sz 64))), .int (gR 2 (fv 2 key none (Lp g0 sz 64))), .int (nI 64), l9] [] fi (ua ar 10 key hv) := by
    refine mr_iload1 hG dX2_reduce_135 ?_
    show G 136 _ _ _ _
    refine mr_if_ne hG 142 dX2_reduce_136 (by decide) (fun c => ?_) (fun c => ?_)
    · refine mr_iload1 hG dX2_reduce_142 ?_
      refine mr_iconst hG 1 dX2_reduce_143 (by decide) ?_
      show G 144 _ _ _ _
      refine mr_icmp_neN hG 150 dX2_reduce_144 (by decide) (by omega) (by omega) (fun c2 => ?_) (fun c2 => ?_)
      · refine mr_iload1 hG dX2_reduce_150 ?_
        refine mr_iconst hG 2 dX2_reduce_151 (by decide) ?_
        show G 152 _ _ _ _
        refine mr_icmp_neN hG 158 dX2_reduce_152 (by decide) (by omega) (by omega) (fun c3 => ?_) (fun c3 => ?_)
        · refine mr_iload1 hG dX2_reduce_158 ?_
          refine mr_iconst hG 3 dX2_reduce_159 (by decide) ?_
          show G 160 _ _ _ _
          refine mr_icmp_neN hG 168 dX2_reduce_160 (by decide) (by omega) (by omega) (fun c4 => ?_) (fun c4 => ?_)
          · have e : r = 4 := by
              have : r ≠ 0 := fun z => by subst z; exact c nI_0
              omega
            subst e
            refine mr_iload3 hG dX2_reduce_168 ?_
            show G 169 _ _ _ _
            exact mr_iret hG dX2_reduce_169 ⟨rfl, rfl, by rw [hne3 (by decide)]⟩
          · subst c4
            refine mr_iload5 hG dX2_reduce_163 ?_
            refine mr_goto hG 169 dX2_reduce_165 (by decide) ?_
            show G 169 _ _ _ _
            refine mr_iret hG dX2_reduce_169 ⟨rfl, rfl, ?_⟩
            rw [h3 rfl, tally]
            show nI _ = nI 0 + nI _
            rw [nI_0, Int32.zero_add]
        · subst c3
          refine mr_iload7 hG dX2_reduce_155 ?_
          show G 157 _ _ _ _
          exact mr_iret hG dX2_reduce_157 ⟨rfl, rfl, by rw [hne3 (by decide)]⟩
      · subst c2
        refine mr_iload6 hG dX2_reduce_147 ?_
        show G 149 _ _ _ _
        exact mr_iret hG dX2_reduce_149 ⟨rfl, rfl, by rw [hne3 (by decide)]⟩
    · have e : r = 0 := by
        rcases Nat.eq_zero_or_pos r with z | z
        · exact z
        · exact absurd c (nI_ne0 z (by omega))
      subst e
      refine mr_iload4 hG dX2_reduce_139 ?_
      show G 141 _ _ _ _
      exact mr_iret hG dX2_reduce_141 ⟨rfl, rfl, by rw [hne3 (by decide)]⟩
  refine mr_aload0 hG dX2_reduce_119 ?_
  refine f2_get_10 hG dX2_reduce_120 ?_
  refine mr_iload2 hG dX2_reduce_123 ?_
  refine mr_iload5 hG dX2_reduce_124 ?_
  show G 126 _ _ _ _
  refine mr_if_le hG 133 dX2_reduce_126 (by decide) (fun c => ?_) (fun c => ?_)
  · have e : hv = nI 0 := hhv0 (fun z => nI_nle z (by omega) c)
    subst e
    refine mr_iconst hG 0 dX2_reduce_133 (by decide) ?_
    refine f2_st_10 hG dX2_reduce_134 key rfl hkey rfl ?_
    show G 135 _ _ _ _
    exact fin
  · have e : hv = nI 1 := hhv (by
      rcases Nat.eq_zero_or_pos (cn key (Lp g0 sz 64)) with z | z
      · rw [z] at c
        exact absurd (show nI 0 ≤ 0 by decide) c
      · exact z)
    subst e
    refine mr_iconst hG 1 dX2_reduce_129 (by decide) ?_
    refine mr_goto hG 134 dX2_reduce_130 (by decide) ?_
    refine f2_st_10 hG dX2_reduce_134 key rfl hkey rfl ?_
    show G 135 _ _ _ _
    exact fin
end MRed
end
section
set_option maxRecDepth 100000
set_option linter.unusedVariables false
/-! MapReduceRunModel: run, results, keyAt, valueAt, feedBack -/
def bI (b : Bool) : Int32 := if b then nI 1 else nI 0
def ck (hs : Nat → Bool) (n : Nat) : Nat := (List.range n).countP hs
theorem ck_s {hs : Nat → Bool} {n : Nat} : ck hs (n + 1) = ck hs n + if hs n then 1 else 0 := by
  unfold ck
  rw [List.range_succ, List.countP_append, List.countP_cons, List.countP_nil, Nat.zero_add]
theorem ck_le {hs : Nat → Bool} (n : Nat) : ck hs n ≤ n := by
  have h : (List.range n).countP hs ≤ (List.range n).length := List.countP_le_length
  rw [List.length_range] at h
  exact h
theorem co_reduce {a b : Value} : mr_callok K2 yX2_reduce [a, b] := ⟨rfl, by decide, by decide, by show _ = some 2; decide +kernel⟩
theorem wd_reduce : GoodIn lw_all (wsV K2.1 61 K2.1 yX2_reduce (ws_ yX2_reduce cX2_reduce 10 (some .int))) := lw_V q288 q290 qs14 q18 q291
section MRun
variable {Post : mr_PT} {h : Nat} {ad : Nat → Nat} {G : mr_GT}
theorem lp_mr1 (hG : mr_Cl K2 cX2_run 5 (some .int) 2 60 Post h ad G) {fi : Nat → Int32} {ar0 : Nat → Nat → Int32} {ff : Nat → Nat} (hff : ∀ i, i < 8 → ar0 9 i = nI (ff i)) {l1 l4 : Value} (hk : ∀ ar, eqA [9] ar0 ar → (∀ i, i < 8 → ar 9 i = nI 0) → G 43 [.ref h, l1, .int (nI (ssum ff 8)), .int (nI 8), l4] [] fi ar) :
    ∀ (n i : Nat) (ar : Nat → Nat → Int32), i ≤ 8 → 8 < i + n → eqA [9] ar0 ar → (∀ j, j < i → ar 9 j = nI 0) → (∀ j, i ≤ j → ar 9 j = ar0 9 j) → G 15 [.ref h, l1, .int (nI (ssum ff i)), .int (nI i), l4] [] fi ar := by
  intro n
  induction n with
  | zero => intro i ar h1 h2; omega
  | succ n ih =>
    intro i ar h1 h2 hA hz hr
    refine mr_iload3 hG dX2_run_15 ?_
    refine mr_bipush hG (nI 8) dX2_run_16 (by decide) ?_
    show G 18 _ _ _ _
    refine mr_icmp_geN hG 43 dX2_run_18 (by decide) (by omega) (by omega) (fun c => ?_) (fun c => ?_)
    · have e : i = 8 := by omega
      subst e
      exact hk ar hA hz
    · have e1 : ar 9 i = nI (ff i) := by rw [hr i (Nat.le_refl i)]; exact hff i c
      refine mr_iload2 hG dX2_run_21 ?_
      refine mr_aload0 hG dX2_run_22 ?_
      refine f2_get_9 hG dX2_run_23 ?_
      refine mr_iload3 hG dX2_run_26 ?_
      refine f2_ld_9 hG dX2_run_27 i rfl c ?_
      refine mr_top (e1) ?_
      refine mr_iaddN hG dX2_run_28 ?_
      refine mr_istore2 hG dX2_run_29 ?_
      refine mr_aload0 hG dX2_run_30 ?_
      refine f2_get_9 hG dX2_run_31 ?_
      refine mr_iload3 hG dX2_run_34 ?_
      refine mr_iconst hG 0 dX2_run_35 (by decide) ?_
      refine f2_st_9 hG dX2_run_36 i rfl c rfl ?_
      refine mr_iincS3 hG dX2_run_37 ?_
      refine mr_goto hG 15 dX2_run_40 (by decide) ?_
      show G 15 _ _ _ _
      refine ih (i + 1) _ (by omega) (by omega) (eqA.up hA (by decide)) (fun j hj => ?_) (fun j hj => ?_)
      · by_cases e9 : j = i
        · subst e9; rw [ua_s]
        · rw [ua_n e9]; exact hz j (by omega)
      · rw [ua_n (by omega)]; exact hr j (by omega)
theorem lp_mr2 (hG : mr_Cl K2 cX2_run 5 (some .int) 2 60 Post h ad G) {fi0 : Nat → Int32} {ar : Nat → Nat → Int32} {M r : Nat} {sz : Nat → Nat} {g : Nat → PL} (hsz : ∀ s, s < 4 → ar 1 s = nI (sz s) ∧ sz s ≤ 16) (hg : ∀ a, a < 64 → g a = one M (fi0 5) (fi0 6) (fi0 7) (fi0 8) r (ar 2 a) (ar 3 a)) {l1 l2 l4 : Value} (hk : ∀ fi, eqF [12] fi0 fi → fi 12 = nI (Lp g sz 64).length → G 80 [.ref h, l1, l2, .int (nI 64), l4] [] fi ar) :
    ∀ (n a : Nat) (fi : Nat → Int32), a ≤ 64 → 64 < a + n → eqF [12] fi0 fi → fi 12 = nI (Lp g sz a).length → G 50 [.ref h, l1, l2, .int (nI a), l4] [] fi ar := by
  intro n
  induction n with
  | zero => intro a fi h1 h2; omega
  | succ n ih =>
    intro a fi h1 h2 hF hm
    refine mr_iload3 hG dX2_run_50 ?_
    refine mr_bipush hG (nI 64) dX2_run_51 (by decide) ?_
    show G 53 _ _ _ _
    refine mr_icmp_geN hG 80 dX2_run_53 (by decide) (by omega) (by omega) (fun c => ?_) (fun c => ?_)
    · have e : a = 64 := by omega
      subst e
      exact hk fi hF hm
    · have hstep : Lp g sz (a + 1) = Lp g sz a ++ (if cts sz (fi0 7) (fi0 8) (ar 3) a then [(km M (ar 2 a), if r = 3 then nI 1 else fi0 5 * ar 3 a + fi0 6)] else []) := by
        rw [Lp_s, hg a c, one_cts]
      refine mr_aload0 hG dX2_run_56 ?_
      refine mr_iload3 hG dX2_run_57 ?_
      show G 58 _ _ _ _
      refine mr_calli hG (cm_counts hsz c) wd_counts co_counts (by decide) rfl (by decide) dX2_run_58 ?_
      rintro v fi' ar' ⟨rfl, rfl, rfl⟩
      rw [hF 7 (by decide), hF 8 (by decide)]
      cases hct : cts sz (fi0 7) (fi0 8) (ar' 3) a with
      | false =>
        rw [hct] at hstep
        simp only [Bool.false_eq_true, if_false, List.append_nil] at hstep
        refine mr_if_eq hG 74 dX2_run_61 (by decide) (fun c2 => ?_) (fun c2 => absurd (show (nI 0 : Int32) = 0 by decide) c2)
        refine mr_iincS3 hG dX2_run_74 ?_
        refine mr_goto hG 50 dX2_run_77 (by decide) ?_
        show G 50 _ _ _ _
        exact ih (a + 1) fi' (by omega) (by omega) hF (by rw [hstep]; exact hm)
      | true =>
        rw [hct] at hstep
        simp only [if_true] at hstep
        refine mr_if_eq hG 74 dX2_run_61 (by decide) (fun c2 => absurd c2 (by decide)) (fun c2 => ?_)
        refine mr_aload0 hG dX2_run_64 ?_
        refine mr_dup hG dX2_run_65 rfl ?_
        refine f2_get_12 hG dX2_run_66 ?_
        refine mr_top (hm) ?_
        refine mr_iconst hG 1 dX2_run_69 (by decide) ?_
        refine mr_iaddN hG dX2_run_70 ?_
        refine f2_put_12 hG dX2_run_71 ?_
        refine mr_iincS3 hG dX2_run_74 ?_
        refine mr_goto hG 50 dX2_run_77 (by decide) ?_
        show G 50 _ _ _ _
        refine ih (a + 1) _ (by omega) (by omega) (eqF.up hF (by decide)) ?_
        rw [up_s, hstep, List.length_append]
        rfl
theorem lp_mr3 (hG : mr_Cl K2 cX2_run 5 (some .int) 2 60 Post h ad G) {fi : Nat → Int32} {ar0 : Nat → Nat → Int32} {M r F : Nat} {sz : Nat → Nat} {g : Nat → PL} (hr4 : r ≤ 4) (hF24 : F < 100) (hM : fi 4 = nI M) (hM1 : 1 ≤ M) (hM16 : M ≤ 16) (hsz : ∀ s, s < 4 → ar0 1 s = nI (sz s) ∧ sz s ≤ 16) (hg : ∀ a, a < 64 → g a = one M (fi 5) (fi 6) (fi 7) (fi 8) r (ar0 2 a) (ar0 3 a)) {gu : Bool} (hgu : gu = decide (6 < F)) {hs : Nat → Bool} (hhs : hs = fun k => !gu && (fv r k none (LL g sz 4)).isSome) (hk : ∀ ar, eqA [10, 11] ar0 ar → (∀ k, k < 16 → ar 10 k = bI (hs k) ∧ ar 11 k = gR r (fv r k none (LL g sz 4))) → Post (if gu then -3 else nI (ck hs 16)) fi ar) :
    ∀ (n key : Nat) (ar : Nat → Nat → Int32), key ≤ 16 → 16 < key + n → eqA [10, 11] ar0 ar → (∀ k, k < key → ar 10 k = bI (hs k) ∧ ar 11 k = gR r (fv r k none (LL g sz 4))) → G 85 [.ref h, .int (nI r), .int (nI F), .int (nI (ck hs key)), .int (nI key)] [] fi ar := by
  intro n
  induction n with
  | zero => intro key ar h1 h2; omega
  | succ n ih =>
    intro key ar h1 h2 hA hD
    refine mr_iload4 hG dX2_run_85 ?_
    refine mr_bipush hG (nI 16) dX2_run_87 (by decide) ?_
    show G 89 _ _ _ _
    refine mr_icmp_geN hG 139 dX2_run_89 (by decide) (by omega) (by omega) (fun c => ?_) (fun c => ?_)
    · have e : key = 16 := by omega
      subst e
      have fin := hk ar hA hD
      refine mr_iload2 hG dX2_run_139 ?_
      refine mr_bipush hG (nI 6) dX2_run_140 (by decide) ?_
      show G 142 _ _ _ _
      refine mr_icmp_leN hG 150 dX2_run_142 (by decide) (by omega) (by omega) (fun c2 => ?_) (fun c2 => ?_)
      · have e : gu = false := by rw [hgu]; simp; omega
        rw [e] at fin
        refine mr_iload3 hG dX2_run_150 ?_
        show G 151 _ _ _ _
        exact mr_iret hG dX2_run_151 fin
      · have e : gu = true := by rw [hgu]; simp; omega
        rw [e] at fin
        refine mr_bipush hG (-3) dX2_run_145 (by decide) ?_
        refine mr_goto hG 151 dX2_run_147 (by decide) ?_
        show G 151 _ _ _ _
        exact mr_iret hG dX2_run_151 fin
    · refine mr_aload0 hG dX2_run_92 ?_
      refine f2_get_11 hG dX2_run_93 ?_
      refine mr_iload4 hG dX2_run_96 ?_
      refine mr_aload0 hG dX2_run_98 ?_
      refine mr_iload1 hG dX2_run_99 ?_
      refine mr_iload4 hG dX2_run_100 ?_
      show G 102 _ _ _ _
      refine mr_calli hG (cm_reduce (key := key) (g := g) hr4 hM hM1 hM16 (fun s hs4 => by rw [hA 1 (by decide)]; exact hsz s hs4) c (fun a ha => by rw [hA 2 (by decide), hA 3 (by decide)]; exact hg a ha)) wd_reduce co_reduce (by decide) rfl (Nat.le_of_ble_eq_true rfl) dX2_run_102 ?_
      rintro v fi' ar2 ⟨rfl, rfl, rfl⟩
      refine f2_st_11 hG dX2_run_105 key rfl c rfl ?_
      refine mr_iload2 hG dX2_run_106 ?_
      refine mr_bipush hG (nI 6) dX2_run_107 (by decide) ?_
      show G 109 _ _ _ _
      have next : ∀ ar3, eqA [10, 11] ar0 ar3 → (∀ k, k < key + 1 → ar3 10 k = bI (hs k) ∧ ar3 11 k = gR r (fv r k none (LL g sz 4))) → G 120 [.ref h, .int (nI r), .int (nI F), .int (nI (ck hs key)), .int (nI key)] [] fi' ar3 := by
        intro ar3 hA3 hD3
        have hh := (hD3 key (by omega)).1
        have hcs := ck_s (hs := hs) (n := key)
        refine mr_aload0 hG dX2_run_120 ?_
        refine f2_get_10 hG dX2_run_121 ?_
        refine mr_iload4 hG dX2_run_124 ?_
        refine f2_ld_10 hG dX2_run_126 key rfl c ?_
        refine mr_top (hh) ?_
        show G 127 _ _ _ _
        cases hb : hs key with
        | false =>
          rw [hb] at hcs
          refine mr_if_eq hG 133 dX2_run_127 (by decide) (fun c2 => ?_) (fun c2 => absurd (show bI false = 0 by decide) c2)
          refine mr_iincS4 hG dX2_run_133 ?_
          refine mr_goto hG 85 dX2_run_136 (by decide) ?_
          show G 85 _ _ _ _
          have key2 := ih (key + 1) ar3 (by omega) (by omega) hA3 hD3
          rw [hcs] at key2
          exact key2
        | true =>
          rw [hb] at hcs
          refine mr_if_eq hG 133 dX2_run_127 (by decide) (fun c2 => absurd c2 (by decide)) (fun c2 => ?_)
          refine mr_iincS3 hG dX2_run_130 ?_
          refine mr_iincS4 hG dX2_run_133 ?_
          refine mr_goto hG 85 dX2_run_136 (by decide) ?_
          show G 85 _ _ _ _
          have key2 := ih (key + 1) ar3 (by omega) (by omega) hA3 hD3
          rw [hcs] at key2
          exact key2
      refine mr_icmp_leN hG 120 dX2_run_109 (by decide) (by omega) (by omega) (fun c2 => ?_) (fun c2 => ?_)
      · have e : gu = false := by rw [hgu]; simp; omega
        refine next _ (eqA.up (eqA.up hA (by decide)) (by decide)) (fun k hk1 => ?_)
        by_cases e9 : k = key
        · subst e9
          refine ⟨?_, by rw [ua_s]⟩
          rw [ua_o (by decide), ua_s, hhs, e]
          rfl
        · rw [ua_o (by decide), ua_n e9, ua_n e9, ua_o (by decide)]
          exact hD k (by omega)
      · have e : gu = true := by rw [hgu]; simp; omega
        refine mr_aload0 hG dX2_run_112 ?_
        refine f2_get_10 hG dX2_run_113 ?_
        refine mr_iload4 hG dX2_run_116 ?_
        refine mr_iconst hG 0 dX2_run_118 (by decide) ?_
        refine f2_st_10 hG dX2_run_119 key rfl c rfl ?_
        show G 120 _ _ _ _
        refine next _ (eqA.up (eqA.up (eqA.up hA (by decide)) (by decide)) (by decide)) (fun k hk1 => ?_)
        by_cases e9 : k = key
        · subst e9
          refine ⟨?_, ?_⟩
          · rw [ua_s, hhs, e]
            rfl
          · rw [ua_o (by decide), ua_s]
        · rw [ua_n e9, ua_o (by decide), ua_n e9, ua_o (by decide), ua_n e9, ua_o (by decide)]
          exact hD k (by omega)
theorem cm_run_bad {fi : Nat → Int32} {ar : Nat → Nat → Int32} {x : Int32} (hx : x < 0 ∨ nI 4 < x) : mr_Con K2 yX2_run cX2_run 5 (some .int) 2 60 [.int x] fi ar (fun v fi' ar' => fi' = fi ∧ ar' = ar ∧ v = -1) := by
  refine mr_con ok2 (by decide) rfl 3 rfl rfl ?_
  intro h ad G hG
  show G 0 [.ref h, .int x, .null, .null, .null] [] fi ar
  refine mr_iload1 hG dX2_run_0 ?_
  show G 1 _ _ _ _
  refine mr_if_lt hG 9 dX2_run_1 (by decide) (fun c => ?_) (fun c => ?_)
  · refine mr_iconstm hG (-1) dX2_run_9 (by decide) ?_
    show G 10 _ _ _ _
    exact mr_iret hG dX2_run_10 ⟨rfl, rfl, rfl⟩
  · refine mr_iload1 hG dX2_run_4 ?_
    refine mr_iconst hG 4 dX2_run_5 (by decide) ?_
    show G 6 _ _ _ _
    refine mr_icmp_le hG 11 dX2_run_6 (by decide) (fun c2 => ?_) (fun c2 => ?_)
    · exact absurd c2 (lt_nle (hx.resolve_left c))
    · refine mr_iconstm hG (-1) dX2_run_9 (by decide) ?_
      show G 10 _ _ _ _
      exact mr_iret hG dX2_run_10 ⟨rfl, rfl, rfl⟩
theorem cm_run {fi : Nat → Int32} {ar : Nat → Nat → Int32} {M r : Nat} {sz ff : Nat → Nat} {g : Nat → PL} (hr4 : r ≤ 4) (hM : fi 4 = nI M ∧ 1 ≤ M ∧ M ≤ 16) (hg : ∀ a, a < 64 → g a = one M (fi 5) (fi 6) (fi 7) (fi 8) r (ar 2 a) (ar 3 a)) (hsz : ∀ s, s < 4 → ar 1 s = nI (sz s) ∧ sz s ≤ 16) (hff : ∀ i, i < 8 → ar 9 i = nI (ff i) ∧ ff i ≤ 3) {gu : Bool} (hgu : gu = decide (6 < ssum ff 8)) {hs : Nat → Bool} (hhs : hs = fun k => !gu && (fv r k none (LL g sz 4)).isSome) : mr_Con K2 yX2_run cX2_run 5 (some .int) 2 60 [.int (nI r)] fi ar (fun v fi' ar' => eqF [12] fi fi' ∧ eqA [9, 10, 11] ar ar' ∧ fi' 12 = nI (LL g sz 4).length ∧ (∀ i, i < 8 → ar' 9 i = nI 0) ∧ (∀ k, k < 16 → ar' 10 k = bI (hs k) ∧ ar' 11 k = gR r (fv r k none (LL g sz 4))) ∧ v = if gu then -3 else nI (ck hs 16)) := by
  refine mr_con ok2 (by decide) rfl 3 rfl rfl ?_
  intro h ad G hG
  show G 0 [.ref h, .int (nI r), .null, .null, .null] [] fi ar
  have hs8 : ssum ff 8 ≤ 24 := by
    have a0 := (hff 0 (by omega)).2
    have a1 := (hff 1 (by omega)).2
    have a2 := (hff 2 (by omega)).2
    have a3 := (hff 3 (by omega)).2
    have a4 := (hff 4 (by omega)).2
    have a5 := (hff 5 (by omega)).2
    have a6 := (hff 6 (by omega)).2
    have a7 := (hff 7 (by omega)).2
    simp only [ssum]
    omega
  refine mr_iload1 hG dX2_run_0 ?_
  show G 1 _ _ _ _
  refine mr_if_lt hG 9 dX2_run_1 (by decide) (fun c => absurd c (n_neg (by omega))) (fun c => ?_)
  refine mr_iload1 hG dX2_run_4 ?_
  refine mr_iconst hG 4 dX2_run_5 (by decide) ?_
  show G 6 _ _ _ _
  refine mr_icmp_leN hG 11 dX2_run_6 (by decide) (by omega) (by omega) (fun c2 => ?_) (fun c2 => ?_)
  · refine mr_iconst hG 0 dX2_run_11 (by decide) ?_
    refine mr_istore2 hG dX2_run_12 ?_
    refine mr_iconst hG 0 dX2_run_13 (by decide) ?_
    refine mr_istore3 hG dX2_run_14 ?_
    show G 15 _ _ _ _
    refine lp_mr1 hG (ff := ff) (fun i hi => (hff i hi).1) ?_ 9 0 ar (by omega) (by omega) eqA.rf (fun j hj => by omega) (fun j hj => rfl)
    intro ar1 hA1 hz1
    refine mr_aload0 hG dX2_run_43 ?_
    refine mr_iconst hG 0 dX2_run_44 (by decide) ?_
    refine f2_put_12 hG dX2_run_45 ?_
    refine mr_iconst hG 0 dX2_run_48 (by decide) ?_
    refine mr_istore3 hG dX2_run_49 ?_
    show G 50 _ _ _ _
    refine lp_mr2 hG (fi0 := fi) (ar := ar1) (M := M) (r := r) (sz := sz) (g := g) (fun s hs4 => by rw [hA1 1 (by decide)]; exact hsz s hs4) (fun a ha => by rw [hA1 2 (by decide), hA1 3 (by decide)]; exact hg a ha) ?_ 65 0 _ (by omega) (by omega) (eqF.up eqF.rf (by decide)) up_s
    intro fi2 hF2 hm2
    rw [Lp_64 (fun s hs4 => (hsz s hs4).2)] at hm2
    refine mr_iconst hG 0 dX2_run_80 (by decide) ?_
    refine mr_istore3 hG dX2_run_81 ?_
    refine mr_iconst hG 0 dX2_run_82 (by decide) ?_
    refine mr_istore4 hG dX2_run_83 ?_
    show G 85 _ _ _ _
    refine lp_mr3 hG (fi := fi2) (ar0 := ar1) (M := M) (r := r) (F := ssum ff 8) (sz := sz) (g := g) hr4 (by omega) (by rw [hF2 4 (by decide)]; exact hM.1) hM.2.1 hM.2.2 (fun s hs4 => by rw [hA1 1 (by decide)]; exact hsz s hs4) (fun a ha => by rw [hA1 2 (by decide), hA1 3 (by decide), hF2 5 (by decide), hF2 6 (by decide), hF2 7 (by decide), hF2 8 (by decide)]; exact hg a ha) hgu hhs ?_ 17 0 ar1 (by omega) (by omega) eqA.rf (fun k hk => by omega)
    intro ar3 hA3 hD3
    refine ⟨hF2, eqA.tr (hA1.wk (by decide)) (hA3.wk (by decide)), hm2, fun i hi => ?_, hD3, rfl⟩
    rw [hA3 9 (by decide)]
    exact hz1 i hi
  · omega
end MRun
end
section
set_option maxRecDepth 100000
set_option linter.unusedVariables false
/-! MapReduceRunModel: results, keyAt, valueAt, feedBack -/
theorem sgn_len {P : Nat} {hs : Nat → Bool} {s n : Nat} : (sgn P hs s n).length ≤ n := by
  unfold sgn
  have := List.length_filter_le (fun k => hs k && decide (k % P = s)) (List.range n)
  rw [List.length_range] at this
  exact this
theorem sgn_pre {P : Nat} {hs : Nat → Bool} {s n : Nat} : ∀ m, ∃ r, sgn P hs s (n + m) = sgn P hs s n ++ r
  | 0 => ⟨[], by simp⟩
  | m + 1 => by
    obtain ⟨r, e⟩ := sgn_pre (P := P) (hs := hs) (s := s) (n := n) m
    have e2 : n + (m + 1) = n + m + 1 := by omega
    exact ⟨r ++ (if hs (n + m) && decide ((n + m) % P = s) then [n + m] else []), by rw [e2, sgn_s, e, List.append_assoc]⟩
theorem sgn_yes {P : Nat} {hs : Nat → Bool} {s n : Nat} (h1 : hs n = true) (h2 : n % P = s) : sgn P hs s (n + 1) = sgn P hs s n ++ [n] := by
  rw [sgn_s]
  simp [h1, h2]
theorem sgn_no {P : Nat} {hs : Nat → Bool} {s n : Nat} (h : hs n = false ∨ ¬ n % P = s) : sgn P hs s (n + 1) = sgn P hs s n := by
  rw [sgn_s]
  rcases h with h | h
  · simp [h]
  · simp [h]
theorem nIm1 {n : Nat} (h : n < 2 ^ 31) : ¬ nI n = -1 := by
  intro e
  have e2 := congrArg Int32.toInt e
  rw [nI_toInt h] at e2
  have e3 : (-1 : Int32).toInt = -1 := by decide
  rw [e3] at e2
  omega
section MRest
variable {Post : mr_PT} {h : Nat} {ad : Nat → Nat} {G : mr_GT} {fi : Nat → Int32} {ar : Nat → Nat → Int32}
theorem cm_results_bad {P : Nat} {x : Int32} (hP : fi 0 = nI P) (hx : x < 0 ∨ nI P ≤ x) : mr_Con K2 yX2_results cX2_results 4 (some .int) 0 0 [.int x] fi ar (fun r fi' ar' => fi' = fi ∧ ar' = ar ∧ r = -1) := by
  refine mr_con ok2 (by decide) rfl 2 rfl rfl ?_
  intro h ad G hG
  show G 0 [.ref h, .int x, .null, .null] [] fi ar
  refine mr_iload1 hG dX2_results_0 ?_
  show G 1 _ _ _ _
  refine mr_if_lt hG 12 dX2_results_1 (by decide) (fun c => ?_) (fun c => ?_)
  · refine mr_iconstm hG (-1) dX2_results_12 (by decide) ?_
    show G 13 _ _ _ _
    exact mr_iret hG dX2_results_13 ⟨rfl, rfl, rfl⟩
  · refine mr_iload1 hG dX2_results_4 ?_
    refine mr_aload0 hG dX2_results_5 ?_
    refine f2_get_0 hG dX2_results_6 ?_
    refine mr_top (hP) ?_
    show G 9 _ _ _ _
    refine mr_icmp_lt hG 14 dX2_results_9 (by decide) (fun c2 => ?_) (fun c2 => ?_)
    · exact absurd c2 (le_nlt (hx.resolve_left c))
    · refine mr_iconstm hG (-1) dX2_results_12 (by decide) ?_
      show G 13 _ _ _ _
      exact mr_iret hG dX2_results_13 ⟨rfl, rfl, rfl⟩
theorem lp_mres (hG : mr_Cl K2 cX2_results 4 (some .int) 0 0 Post h ad G) {P p : Nat} {hs : Nat → Bool} (hP : fi 0 = nI P) (hP1 : 1 ≤ P) (hP4 : P ≤ 4) (hp : p < P) (hh : ∀ k, k < 16 → ar 10 k = bI (hs k)) (hk : Post (nI (sg P hs p).length) fi ar) :
    ∀ (n k : Nat), k ≤ 16 → 16 < k + n → G 18 [.ref h, .int (nI p), .int (nI (sgn P hs p k).length), .int (nI k)] [] fi ar := by
  intro n
  induction n with
  | zero => intro k h1 h2; omega
  | succ n ih =>
    intro k h1 h2
    refine mr_iload3 hG dX2_results_18 ?_
    refine mr_bipush hG (nI 16) dX2_results_19 (by decide) ?_
    show G 21 _ _ _ _
    refine mr_icmp_geN hG 52 dX2_results_21 (by decide) (by omega) (by omega) (fun c => ?_) (fun c => ?_)
    · have e : k = 16 := by omega
      subst e
      refine mr_iload2 hG dX2_results_52 ?_
      show G 53 _ _ _ _
      exact mr_iret hG dX2_results_53 hk
    · refine mr_aload0 hG dX2_results_24 ?_
      refine f2_get_10 hG dX2_results_25 ?_
      refine mr_iload3 hG dX2_results_28 ?_
      refine f2_ld_10 hG dX2_results_29 k rfl c ?_
      refine mr_top ((hh k c)) ?_
      show G 30 _ _ _ _
      have hm : k % P < 4 := Nat.lt_of_lt_of_le (Nat.mod_lt _ hP1) hP4
      have key2 := ih (k + 1) (by omega) (by omega)
      cases hb : hs k with
      | false =>
        refine mr_if_eq hG 46 dX2_results_30 (by decide) (fun c2 => ?_) (fun c2 => absurd (show bI false = 0 by decide) c2)
        rw [sgn_no (Or.inl hb)] at key2
        refine mr_iincS3 hG dX2_results_46 ?_
        refine mr_goto hG 18 dX2_results_49 (by decide) ?_
        show G 18 _ _ _ _
        exact key2
      | true =>
        refine mr_if_eq hG 46 dX2_results_30 (by decide) (fun c2 => absurd c2 (by decide)) (fun c2 => ?_)
        refine mr_iload3 hG dX2_results_33 ?_
        refine mr_aload0 hG dX2_results_34 ?_
        refine f2_get_0 hG dX2_results_35 ?_
        refine mr_top (hP) ?_
        refine mr_iremN hG dX2_results_38 (by omega) (by omega) (by omega) ?_
        refine mr_iload1 hG dX2_results_39 ?_
        show G 40 _ _ _ _
        refine mr_icmp_neN hG 46 dX2_results_40 (by decide) (by omega) (by omega) (fun c3 => ?_) (fun c3 => ?_)
        · rw [sgn_no (Or.inr c3)] at key2
          refine mr_iincS3 hG dX2_results_46 ?_
          refine mr_goto hG 18 dX2_results_49 (by decide) ?_
          show G 18 _ _ _ _
          exact key2
        · rw [sgn_yes hb c3, List.length_append] at key2
          refine mr_iincS2 hG dX2_results_43 ?_
          refine mr_iincS3 hG dX2_results_46 ?_
          refine mr_goto hG 18 dX2_results_49 (by decide) ?_
          show G 18 _ _ _ _
          exact key2
theorem cm_results_ok {P p : Nat} {hs : Nat → Bool} (hP : fi 0 = nI P) (hP1 : 1 ≤ P) (hP4 : P ≤ 4) (hp : p < P) (hh : ∀ k, k < 16 → ar 10 k = bI (hs k)) : mr_Con K2 yX2_results cX2_results 4 (some .int) 0 0 [.int (nI p)] fi ar (fun r fi' ar' => fi' = fi ∧ ar' = ar ∧ r = nI (sg P hs p).length) := by
  refine mr_con ok2 (by decide) rfl 2 rfl rfl ?_
  intro h ad G hG
  show G 0 [.ref h, .int (nI p), .null, .null] [] fi ar
  refine mr_iload1 hG dX2_results_0 ?_
  show G 1 _ _ _ _
  refine mr_if_lt hG 12 dX2_results_1 (by decide) (fun c => ?_) (fun c => ?_)
  · exact absurd c (n_neg (by omega))
  · refine mr_iload1 hG dX2_results_4 ?_
    refine mr_aload0 hG dX2_results_5 ?_
    refine f2_get_0 hG dX2_results_6 ?_
    refine mr_top (hP) ?_
    show G 9 _ _ _ _
    refine mr_icmp_ltN hG 14 dX2_results_9 (by decide) (by omega) (by omega) (fun c2 => ?_) (fun c2 => ?_)
    · refine mr_iconst hG 0 dX2_results_14 (by decide) ?_
      refine mr_istore2 hG dX2_results_15 ?_
      refine mr_iconst hG 0 dX2_results_16 (by decide) ?_
      refine mr_istore3 hG dX2_results_17 ?_
      show G 18 _ _ _ _
      exact lp_mres hG hP hP1 hP4 hp hh ⟨rfl, rfl, rfl⟩ 17 0 (by omega) (by omega)
    · omega
theorem cm_keyAt_bad {P : Nat} {x i : Int32} (hP : fi 0 = nI P) (hx : x < 0 ∨ nI P ≤ x) : mr_Con K2 yX2_keyAt cX2_keyAt 5 (some .int) 0 0 [.int x, .int i] fi ar (fun r fi' ar' => fi' = fi ∧ ar' = ar ∧ r = -1) := by
  refine mr_con ok2 (by decide) rfl 2 rfl rfl ?_
  intro h ad G hG
  show G 0 [.ref h, .int x, .int i, .null, .null] [] fi ar
  refine mr_iload1 hG dX2_keyAt_0 ?_
  show G 1 _ _ _ _
  refine mr_if_lt hG 12 dX2_keyAt_1 (by decide) (fun c => ?_) (fun c => ?_)
  · refine mr_iconstm hG (-1) dX2_keyAt_12 (by decide) ?_
    show G 13 _ _ _ _
    exact mr_iret hG dX2_keyAt_13 ⟨rfl, rfl, rfl⟩
  · refine mr_iload1 hG dX2_keyAt_4 ?_
    refine mr_aload0 hG dX2_keyAt_5 ?_
    refine f2_get_0 hG dX2_keyAt_6 ?_
    refine mr_top (hP) ?_
    show G 9 _ _ _ _
    refine mr_icmp_lt hG 14 dX2_keyAt_9 (by decide) (fun c2 => ?_) (fun c2 => ?_)
    · exact absurd c2 (le_nlt (hx.resolve_left c))
    · refine mr_iconstm hG (-1) dX2_keyAt_12 (by decide) ?_
      show G 13 _ _ _ _
      exact mr_iret hG dX2_keyAt_13 ⟨rfl, rfl, rfl⟩
/-- what keyAt answers: the key at the place, or none -/
def KA (P : Nat) (hs : Nat → Bool) (p : Nat) (i : Int32) (A : Nat → Prop) (B : Prop) : Prop := (∃ m k, i = nI m ∧ m < 16 ∧ (sg P hs p)[m]? = some k ∧ A k) ∨ ((∀ m, m < (sg P hs p).length → ¬ i = nI m) ∧ B)
theorem lp_mkey (hG : mr_Cl K2 cX2_keyAt 5 (some .int) 0 0 Post h ad G) {P p : Nat} {i : Int32} {hs : Nat → Bool} (hP : fi 0 = nI P) (hP1 : 1 ≤ P) (hP4 : P ≤ 4) (hp : p < P) (hh : ∀ k, k < 16 → ar 10 k = bI (hs k)) (hk : ∀ v, KA P hs p i (fun k => v = nI k) (v = -1) → Post v fi ar) :
    ∀ (n k : Nat), k ≤ 16 → 16 < k + n → (∀ m, m < (sgn P hs p k).length → ¬ i = nI m) → G 19 [.ref h, .int (nI p), .int i, .int (nI (sgn P hs p k).length), .int (nI k)] [] fi ar := by
  intro n
  induction n with
  | zero => intro k h1 h2; omega
  | succ n ih =>
    intro k h1 h2 hno
    have hsl := sgn_len (P := P) (hs := hs) (s := p) (n := k)
    refine mr_iload4 hG dX2_keyAt_19 ?_
    refine mr_bipush hG (nI 16) dX2_keyAt_21 (by decide) ?_
    show G 23 _ _ _ _
    refine mr_icmp_geN hG 64 dX2_keyAt_23 (by decide) (by omega) (by omega) (fun c => ?_) (fun c => ?_)
    · have e : k = 16 := by omega
      subst e
      refine mr_iconstm hG (-1) dX2_keyAt_64 (by decide) ?_
      show G 65 _ _ _ _
      exact mr_iret hG dX2_keyAt_65 (hk (-1) (Or.inr ⟨hno, rfl⟩))
    · refine mr_aload0 hG dX2_keyAt_26 ?_
      refine f2_get_10 hG dX2_keyAt_27 ?_
      refine mr_iload4 hG dX2_keyAt_30 ?_
      refine f2_ld_10 hG dX2_keyAt_32 k rfl c ?_
      refine mr_top ((hh k c)) ?_
      show G 33 _ _ _ _
      have hm : k % P < 4 := Nat.lt_of_lt_of_le (Nat.mod_lt _ hP1) hP4
      have key2 := ih (k + 1) (by omega) (by omega)
      cases hb : hs k with
      | false =>
        refine mr_if_eq hG 58 dX2_keyAt_33 (by decide) (fun c2 => ?_) (fun c2 => absurd (show bI false = 0 by decide) c2)
        rw [sgn_no (Or.inl hb)] at key2
        refine mr_iincS4 hG dX2_keyAt_58 ?_
        refine mr_goto hG 19 dX2_keyAt_61 (by decide) ?_
        show G 19 _ _ _ _
        exact key2 hno
      | true =>
        refine mr_if_eq hG 58 dX2_keyAt_33 (by decide) (fun c2 => absurd c2 (by decide)) (fun c2 => ?_)
        refine mr_iload4 hG dX2_keyAt_36 ?_
        refine mr_aload0 hG dX2_keyAt_38 ?_
        refine f2_get_0 hG dX2_keyAt_39 ?_
        refine mr_top (hP) ?_
        refine mr_iremN hG dX2_keyAt_42 (by omega) (by omega) (by omega) ?_
        refine mr_iload1 hG dX2_keyAt_43 ?_
        show G 44 _ _ _ _
        refine mr_icmp_neN hG 58 dX2_keyAt_44 (by decide) (by omega) (by omega) (fun c3 => ?_) (fun c3 => ?_)
        · rw [sgn_no (Or.inr c3)] at key2
          refine mr_iincS4 hG dX2_keyAt_58 ?_
          refine mr_goto hG 19 dX2_keyAt_61 (by decide) ?_
          show G 19 _ _ _ _
          exact key2 hno
        · have e1 := sgn_yes (P := P) hb c3
          refine mr_iload3 hG dX2_keyAt_47 ?_
          refine mr_iload2 hG dX2_keyAt_48 ?_
          show G 49 _ _ _ _
          refine mr_icmp_ne hG 55 dX2_keyAt_49 (by decide) (fun c4 => ?_) (fun c4 => ?_)
          · rw [e1, List.length_append] at key2
            refine mr_iincS3 hG dX2_keyAt_55 ?_
            refine mr_iincS4 hG dX2_keyAt_58 ?_
            refine mr_goto hG 19 dX2_keyAt_61 (by decide) ?_
            show G 19 _ _ _ _
            refine key2 (fun m hm1 => ?_)
            simp only [List.length_singleton] at hm1
            by_cases e9 : m = (sgn P hs p k).length
            · subst e9
              exact fun e => c4 e.symm
            · exact hno m (by omega)
          · refine mr_iload4 hG dX2_keyAt_52 ?_
            show G 54 _ _ _ _
            refine mr_iret hG dX2_keyAt_54 (hk (nI k) (Or.inl ⟨(sgn P hs p k).length, k, c4.symm, by omega, ?_, rfl⟩))
            obtain ⟨r, e2⟩ := sgn_pre (P := P) (hs := hs) (s := p) (n := k + 1) (15 - k)
            have e3 : k + 1 + (15 - k) = 16 := by omega
            rw [e3, e1] at e2
            unfold sg
            rw [e2, List.append_assoc, List.getElem?_append_right (Nat.le_refl _), Nat.sub_self]
            rfl
theorem cm_keyAt_ok {P p : Nat} {i : Int32} {hs : Nat → Bool} (hP : fi 0 = nI P) (hP1 : 1 ≤ P) (hP4 : P ≤ 4) (hp : p < P) (hh : ∀ k, k < 16 → ar 10 k = bI (hs k)) : mr_Con K2 yX2_keyAt cX2_keyAt 5 (some .int) 0 0 [.int (nI p), .int i] fi ar (fun v fi' ar' => fi' = fi ∧ ar' = ar ∧ KA P hs p i (fun k => v = nI k) (v = -1)) := by
  refine mr_con ok2 (by decide) rfl 2 rfl rfl ?_
  intro h ad G hG
  show G 0 [.ref h, .int (nI p), .int i, .null, .null] [] fi ar
  refine mr_iload1 hG dX2_keyAt_0 ?_
  show G 1 _ _ _ _
  refine mr_if_lt hG 12 dX2_keyAt_1 (by decide) (fun c => ?_) (fun c => ?_)
  · exact absurd c (n_neg (by omega))
  · refine mr_iload1 hG dX2_keyAt_4 ?_
    refine mr_aload0 hG dX2_keyAt_5 ?_
    refine f2_get_0 hG dX2_keyAt_6 ?_
    refine mr_top (hP) ?_
    show G 9 _ _ _ _
    refine mr_icmp_ltN hG 14 dX2_keyAt_9 (by decide) (by omega) (by omega) (fun c2 => ?_) (fun c2 => ?_)
    · refine mr_iconst hG 0 dX2_keyAt_14 (by decide) ?_
      refine mr_istore3 hG dX2_keyAt_15 ?_
      refine mr_iconst hG 0 dX2_keyAt_16 (by decide) ?_
      refine mr_istore4 hG dX2_keyAt_17 ?_
      show G 19 _ _ _ _
      exact lp_mkey hG hP hP1 hP4 hp hh (fun v hv => ⟨rfl, rfl, hv⟩) 17 0 (by omega) (by omega) (fun m hm => by simp [sgn] at hm)
    · omega
theorem co_mkeyAt {a b : Value} : mr_callok K2 yX2_keyAt [a, b] := ⟨rfl, by decide, by decide, by show _ = some 2; decide +kernel⟩
theorem wd_mkeyAt : GoodIn lw_all (wsV K2.1 65 K2.1 yX2_keyAt (ws_ yX2_keyAt cX2_keyAt 5 (some .int))) := lw_V q308 q301 q302 q18 q303
theorem cm_valueAt_bad {P : Nat} {x i : Int32} (hP : fi 0 = nI P) (hx : x < 0 ∨ nI P ≤ x) : mr_Con K2 yX2_valueAt cX2_valueAt 4 (some .int) 1 30 [.int x, .int i] fi ar (fun r fi' ar' => fi' = fi ∧ ar' = ar ∧ r = nI 0) := by
  refine mr_con ok2 (by decide) rfl 1 rfl rfl ?_
  intro h ad G hG
  show G 0 [.ref h, .int x, .int i, .null] [] fi ar
  refine mr_aload0 hG dX2_valueAt_0 ?_
  refine mr_iload1 hG dX2_valueAt_1 ?_
  refine mr_iload2 hG dX2_valueAt_2 ?_
  show G 3 _ _ _ _
  refine mr_calli hG (cm_keyAt_bad hP hx) wd_mkeyAt co_mkeyAt (by decide) rfl (by decide) dX2_valueAt_3 ?_
  rintro v fi2 ar2 ⟨rfl, rfl, rfl⟩
  refine mr_istore3 hG dX2_valueAt_6 ?_
  refine mr_iload3 hG dX2_valueAt_7 ?_
  refine mr_iconstm hG (-1) dX2_valueAt_8 (by decide) ?_
  show G 9 _ _ _ _
  refine mr_icmp_ne hG 16 dX2_valueAt_9 (by decide) (fun c => absurd rfl c) (fun c => ?_)
  refine mr_iconst hG 0 dX2_valueAt_12 (by decide) ?_
  refine mr_goto hG 22 dX2_valueAt_13 (by decide) ?_
  show G 22 _ _ _ _
  exact mr_iret hG dX2_valueAt_22 ⟨rfl, rfl, rfl⟩
theorem cm_valueAt_ok {P p : Nat} {i : Int32} {hs : Nat → Bool} (hP : fi 0 = nI P) (hP1 : 1 ≤ P) (hP4 : P ≤ 4) (hp : p < P) (hh : ∀ k, k < 16 → ar 10 k = bI (hs k)) : mr_Con K2 yX2_valueAt cX2_valueAt 4 (some .int) 1 30 [.int (nI p), .int i] fi ar (fun v fi' ar' => fi' = fi ∧ ar' = ar ∧ KA P hs p i (fun k => v = ar 11 k) (v = nI 0)) := by
  refine mr_con ok2 (by decide) rfl 1 rfl rfl ?_
  intro h ad G hG
  show G 0 [.ref h, .int (nI p), .int i, .null] [] fi ar
  refine mr_aload0 hG dX2_valueAt_0 ?_
  refine mr_iload1 hG dX2_valueAt_1 ?_
  refine mr_iload2 hG dX2_valueAt_2 ?_
  show G 3 _ _ _ _
  refine mr_calli hG (cm_keyAt_ok (i := i) hP hP1 hP4 hp hh) wd_mkeyAt co_mkeyAt (by decide) rfl (by decide) dX2_valueAt_3 ?_
  rintro v fi2 ar2 ⟨rfl, rfl, hK⟩
  rcases hK with ⟨m, k, k1, k2, k3, rfl⟩ | ⟨k1, rfl⟩
  · have hk16 := (sg_mem (List.mem_of_getElem? k3)).1
    refine mr_istore3 hG dX2_valueAt_6 ?_
    refine mr_iload3 hG dX2_valueAt_7 ?_
    refine mr_iconstm hG (-1) dX2_valueAt_8 (by decide) ?_
    show G 9 _ _ _ _
    refine mr_icmp_ne hG 16 dX2_valueAt_9 (by decide) (fun c => ?_) (fun c => absurd c (nIm1 (by omega)))
    refine mr_aload0 hG dX2_valueAt_16 ?_
    refine f2_get_11 hG dX2_valueAt_17 ?_
    refine mr_iload3 hG dX2_valueAt_20 ?_
    refine f2_ld_11 hG dX2_valueAt_21 k rfl (by omega) ?_
    show G 22 _ _ _ _
    exact mr_iret hG dX2_valueAt_22 ⟨rfl, rfl, Or.inl ⟨m, k, k1, k2, k3, rfl⟩⟩
  · refine mr_istore3 hG dX2_valueAt_6 ?_
    refine mr_iload3 hG dX2_valueAt_7 ?_
    refine mr_iconstm hG (-1) dX2_valueAt_8 (by decide) ?_
    show G 9 _ _ _ _
    refine mr_icmp_ne hG 16 dX2_valueAt_9 (by decide) (fun c => absurd rfl c) (fun c => ?_)
    refine mr_iconst hG 0 dX2_valueAt_12 (by decide) ?_
    refine mr_goto hG 22 dX2_valueAt_13 (by decide) ?_
    show G 22 _ _ _ _
    exact mr_iret hG dX2_valueAt_22 ⟨rfl, rfl, Or.inr ⟨k1, rfl⟩⟩
theorem co_maddRecord {a b c : Value} : mr_callok K2 yX2_addRecord [a, b, c] := ⟨rfl, by decide, by decide, by show _ = some 3; decide +kernel⟩
theorem wd_maddRecord : GoodIn lw_all (wsV K2.1 68 K2.1 yX2_addRecord (ws_ yX2_addRecord cX2_addRecord 4 (some .int))) := lw_V q317 q265 q266 q18 q267
theorem lp_mf1 (hG : mr_Cl K2 cX2_feedBack 3 (some .int) 1 40 Post h ad G) {ar0 : Nat → Nat → Int32} {l1 : Value} (hk : ∀ ar, eqA [1, 2, 3] ar0 ar → (∀ s, s < 4 → ar 1 s = nI 0) → G 22 [.ref h, l1, .int (nI 4)] [] fi ar) :
    ∀ (n s : Nat) (ar : Nat → Nat → Int32), s ≤ 4 → 4 < s + n → eqA [1, 2, 3] ar0 ar → (∀ j, j < s → ar 1 j = nI 0) → G 4 [.ref h, l1, .int (nI s)] [] fi ar := by
  intro n
  induction n with
  | zero => intro s ar h1 h2; omega
  | succ n ih =>
    intro s ar h1 h2 hA hz
    refine mr_iload2 hG dX2_feedBack_4 ?_
    refine mr_iconst hG 4 dX2_feedBack_5 (by decide) ?_
    show G 6 _ _ _ _
    refine mr_icmp_geN hG 22 dX2_feedBack_6 (by decide) (by omega) (by omega) (fun c => ?_) (fun c => ?_)
    · have e : s = 4 := by omega
      subst e
      exact hk ar hA hz
    · refine mr_aload0 hG dX2_feedBack_9 ?_
      refine f2_get_1 hG dX2_feedBack_10 ?_
      refine mr_iload2 hG dX2_feedBack_13 ?_
      refine mr_iconst hG 0 dX2_feedBack_14 (by decide) ?_
      refine f2_st_1 hG dX2_feedBack_15 s rfl c rfl ?_
      refine mr_iincS2 hG dX2_feedBack_16 ?_
      refine mr_goto hG 4 dX2_feedBack_19 (by decide) ?_
      show G 4 _ _ _ _
      refine ih (s + 1) _ (by omega) (by omega) (eqA.up hA (by decide)) (fun j hj => ?_)
      by_cases e9 : j = s
      · subst e9; rw [ua_s]
      · rw [ua_n e9]; exact hz j (by omega)
theorem lp_mf2 (hG : mr_Cl K2 cX2_feedBack 3 (some .int) 1 40 Post h ad G) {ar0 : Nat → Nat → Int32} {P : Nat} {hs : Nat → Bool} (hP : fi 0 = nI P) (hP1 : 1 ≤ P) (hP4 : P ≤ 4) (hh : ∀ k, k < 16 → ar0 10 k = bI (hs k)) (hk : ∀ ar, eqA [1, 2, 3] ar0 ar → (∀ s, s < 4 → ar 1 s = nI (sg P hs s).length ∧ hold (ar 2) (ar 3) (16 * s) ((sg P hs s).map (fun k => (k, ar0 11 k)))) → Post (nI (ck hs 16)) fi ar) :
    ∀ (n k : Nat) (ar : Nat → Nat → Int32), k ≤ 16 → 16 < k + n → eqA [1, 2, 3] ar0 ar → (∀ s, s < 4 → ar 1 s = nI (sgn P hs s k).length ∧ hold (ar 2) (ar 3) (16 * s) ((sgn P hs s k).map (fun k => (k, ar0 11 k)))) → G 24 [.ref h, .int (nI (ck hs k)), .int (nI k)] [] fi ar := by
  intro n
  induction n with
  | zero => intro k ar h1 h2; omega
  | succ n ih =>
    intro k ar h1 h2 hA hD
    refine mr_iload2 hG dX2_feedBack_24 ?_
    refine mr_bipush hG (nI 16) dX2_feedBack_25 (by decide) ?_
    show G 27 _ _ _ _
    refine mr_icmp_geN hG 66 dX2_feedBack_27 (by decide) (by omega) (by omega) (fun c => ?_) (fun c => ?_)
    · have e : k = 16 := by omega
      subst e
      refine mr_iload1 hG dX2_feedBack_66 ?_
      show G 67 _ _ _ _
      exact mr_iret hG dX2_feedBack_67 (hk ar hA hD)
    · have hm : k % P < 4 := Nat.lt_of_lt_of_le (Nat.mod_lt _ hP1) hP4
      have hcs := ck_s (hs := hs) (n := k)
      refine mr_aload0 hG dX2_feedBack_30 ?_
      refine f2_get_10 hG dX2_feedBack_31 ?_
      refine mr_iload2 hG dX2_feedBack_34 ?_
      refine f2_ld_10 hG dX2_feedBack_35 k rfl c ?_
      refine mr_top ((by rw [hA 10 (by decide)]; exact hh k c : _ = bI (hs k))) ?_
      show G 36 _ _ _ _
      cases hb : hs k with
      | false =>
        rw [hb] at hcs
        refine mr_if_eq hG 60 dX2_feedBack_36 (by decide) (fun c2 => ?_) (fun c2 => absurd (show bI false = 0 by decide) c2)
        refine mr_iincS2 hG dX2_feedBack_60 ?_
        refine mr_goto hG 24 dX2_feedBack_63 (by decide) ?_
        show G 24 _ _ _ _
        have key2 := ih (k + 1) ar (by omega) (by omega) hA (fun s hs4 => by rw [sgn_no (Or.inl hb)]; exact hD s hs4)
        rw [hcs] at key2
        exact key2
      | true =>
        rw [hb] at hcs
        refine mr_if_eq hG 60 dX2_feedBack_36 (by decide) (fun c2 => absurd c2 (by decide)) (fun c2 => ?_)
        have hsl := sgn_len (P := P) (hs := hs) (s := k % P) (n := k)
        refine mr_aload0 hG dX2_feedBack_39 ?_
        refine mr_iload2 hG dX2_feedBack_40 ?_
        refine mr_aload0 hG dX2_feedBack_41 ?_
        refine f2_get_0 hG dX2_feedBack_42 ?_
        refine mr_top (hP) ?_
        refine mr_iremN hG dX2_feedBack_45 (by omega) (by omega) (by omega) ?_
        refine mr_iload2 hG dX2_feedBack_46 ?_
        refine mr_aload0 hG dX2_feedBack_47 ?_
        refine f2_get_11 hG dX2_feedBack_48 ?_
        refine mr_iload2 hG dX2_feedBack_51 ?_
        refine f2_ld_11 hG dX2_feedBack_52 k rfl c ?_
        refine mr_top ((by rw [hA 11 (by decide)] : _ = ar0 11 k)) ?_
        show G 53 _ _ _ _
        refine mr_calli hG (cm_addRecord_ok (j := k % P) (c := (sgn P hs (k % P) k).length) (k := nI k) (v := ar0 11 k) hm (hD (k % P) hm).1 (by omega)) wd_maddRecord co_maddRecord (by decide) rfl (by decide) dX2_feedBack_53 ?_
        rintro v fi2 ar2 ⟨rfl, rfl, rfl⟩
        refine mr_pop hG dX2_feedBack_56 rfl ?_
        refine mr_iincS1 hG dX2_feedBack_57 ?_
        refine mr_iincS2 hG dX2_feedBack_60 ?_
        refine mr_goto hG 24 dX2_feedBack_63 (by decide) ?_
        show G 24 _ _ _ _
        have key2 := ih (k + 1) _ (by omega) (by omega) (eqA.up (eqA.up (eqA.up (i := 16 * (k % P) + (sgn P hs (k % P) k).length) (x := nI k) (k := 2) hA (by decide)) (i := 16 * (k % P) + (sgn P hs (k % P) k).length) (x := ar0 11 k) (k := 3) (by decide)) (i := k % P) (x := nI ((sgn P hs (k % P) k).length + 1)) (k := 1) (by decide)) (fun s hs4 => ?_)
        · rw [hcs] at key2
          exact key2
        · have hsl2 := sgn_len (P := P) (hs := hs) (s := s) (n := k)
          obtain ⟨d1, d2⟩ := hD s hs4
          by_cases e9 : k % P = s
          · subst e9
            rw [sgn_yes hb rfl]
            refine ⟨by rw [ua_s, List.length_append]; rfl, ?_⟩
            rw [List.map_append, hold_app, List.length_map]
            refine ⟨hold_fr d2 (fun j j1 j2 => ?_), hold_cons.mpr ⟨⟨?_, ?_⟩, hold_nil⟩⟩
            · rw [List.length_map] at j2
              exact ⟨by rw [ua_o (by decide), ua_o (by decide), ua_n (by omega)], by rw [ua_o (by decide), ua_n (by omega), ua_o (by decide)]⟩
            · rw [ua_o (by decide), ua_o (by decide), ua_s]
            · rw [ua_o (by decide), ua_s]
          · rw [sgn_no (Or.inr e9)]
            refine ⟨by rw [ua_n (fun e => e9 e.symm), ua_o (by decide), ua_o (by decide)]; exact d1, hold_fr d2 (fun j j1 j2 => ?_)⟩
            rw [List.length_map] at j2
            exact ⟨by rw [ua_o (by decide), ua_o (by decide), ua_n (by omega)], by rw [ua_o (by decide), ua_n (by omega), ua_o (by decide)]⟩
theorem cm_feedBack {P : Nat} {hs : Nat → Bool} (hP : fi 0 = nI P) (hP1 : 1 ≤ P) (hP4 : P ≤ 4) (hh : ∀ k, k < 16 → ar 10 k = bI (hs k)) : mr_Con K2 yX2_feedBack cX2_feedBack 3 (some .int) 1 40 [] fi ar (fun v fi' ar' => fi' = fi ∧ eqA [1, 2, 3] ar ar' ∧ (∀ s, s < 4 → ar' 1 s = nI (sg P hs s).length ∧ hold (ar' 2) (ar' 3) (16 * s) ((sg P hs s).map (fun k => (k, ar 11 k)))) ∧ v = nI (ck hs 16)) := by
  refine mr_con ok2 (by decide) rfl 2 rfl rfl ?_
  intro h ad G hG
  show G 0 [.ref h, .null, .null] [] fi ar
  refine mr_iconst hG 0 dX2_feedBack_0 (by decide) ?_
  refine mr_istore1 hG dX2_feedBack_1 ?_
  refine mr_iconst hG 0 dX2_feedBack_2 (by decide) ?_
  refine mr_istore2 hG dX2_feedBack_3 ?_
  show G 4 _ _ _ _
  refine lp_mf1 hG ?_ 5 0 ar (by omega) (by omega) eqA.rf (fun j hj => by omega)
  intro ar1 hA1 hz1
  refine mr_iconst hG 0 dX2_feedBack_22 (by decide) ?_
  refine mr_istore2 hG dX2_feedBack_23 ?_
  show G 24 _ _ _ _
  refine lp_mf2 hG (ar0 := ar) hP hP1 hP4 hh (fun ar' e1 e2 => ⟨rfl, e1, e2, rfl⟩) 17 0 ar1 (by omega) (by omega) hA1 (fun s hs4 => ⟨hz1 s hs4, hold_nil⟩)
end MRest
end
section
set_option maxRecDepth 100000
set_option linter.unusedVariables false
/-! the constructors. xs: the arrays made so far (address, array kind's number, element type, length), all zero -/
abbrev gi_X : Type := Nat × ClassId × FieldType × Nat
abbrev gi_T : Type := Nat → List Value → List Value → (Nat → Value) → List gi_X → Prop
def gi_x (x : gi_X) : Nat × va_E := (x.1, .inl (x.2.1, x.2.2.2, .inl (fun _ => 0)))
def gi_fs (K : mr_Kd) (fs : Nat → Value) : List Value := (List.range K.2.2.1).map fs
def gi_ws (K : mr_Kd) (h : Nat) (fs : Nat → Value) (xs : List gi_X) : va_W := (h, .inr (K.2.2.2.1, gi_fs K fs)) :: xs.reverse.map gi_x
def gi_tys (xs : List gi_X) : List (ClassId × FieldType) := xs.reverse.map (fun x => (x.2.1, x.2.2.1))
def gi_sl (xs : List gi_X) : Nat := (xs.map (fun x => x.2.2.2)).sum
abbrev gi_U : Type := (Nat → Nat) × (Nat → ClassId) × mr_St
def gi_B (K : mr_Kd) (h : Nat) (D : va_G) (A : Nat → Prop) (u : gi_U) (t : State) : Prop := mr_B K h u.1 u.2.1 D A u.2.2 t
def gi_G (K : mr_Kd) (mc ms : Nat) (Post : gi_U → Prop) (h : Nat) (p : Program) (l : Launch) (e : Env) (R : Room) (s : State) (m : MethodId) (args : Array Value) (below : List Frame) (meth : Method) (c : Code) (A : Nat → Prop) (D : va_G) : gi_T := fun pc lv st fs xs => ∀ (ls : Array Slot) (H : Heap) (locs : List Loc), mr_has ls 3 lv → va_P D vwCl (gi_ws K h fs xs) H → va_K D vwCl (gi_tys xs) s → va_D A (gi_ws K h fs xs) → va_S A s.heap H locs → W p l e R s m args below meth c H locs xs.length (gi_sl xs) (MQ below (va_Qv Post (gi_B K h D A) A) args s mc ms A) (F0 m pc ls st)
def gi_Cl (K : mr_Kd) (cc : ByteArray) (mc ms : Nat) (Post : gi_U → Prop) (h : Nat) (G : gi_T) : Prop := ∃ (p : Program) (l : Launch) (e : Env) (R : Room) (s : State) (m : MethodId) (args : Array Value) (below : List Frame) (meth : Method) (c : Code) (A : Nat → Prop) (D : va_G), mr_ok K ∧ p.tables.exec = Jvm.exec ∧ c.code = cc ∧ meth.sig.returnType = none ∧ meth.locks = false ∧ c.maxLocals = 3 ∧ s.vm.findClass K.1 = some m.cls ∧ (∀ w ∈ lw_all, w.before args s = true) ∧ (∀ q, s.heap.size ≤ q → A q) ∧ R = { frames := 1, cells := mc, slots := ms, locals := 12 } ∧ meth.name = "<init>" ∧ G = gi_G K mc ms Post h p l e R s m args below meth c A D
theorem gi_ws_a {K : mr_Kd} {h : Nat} {fs : Nat → Value} {xs : List gi_X} {x : gi_X} : gi_ws K h fs xs ++ [gi_x x] = gi_ws K h fs (x :: xs) := by
  simp [gi_ws]
theorem gi_tys_a {xs : List gi_X} {x : gi_X} : gi_tys xs ++ [(x.2.1, x.2.2.1)] = gi_tys (x :: xs) := by
  simp [gi_tys]
theorem gi_sl_a {xs : List gi_X} {x : gi_X} : gi_sl (x :: xs) = gi_sl xs + x.2.2.2 := by
  simp [gi_sl, Nat.add_comm]
theorem gi_fs_set {K : mr_Kd} {fs : Nat → Value} {k : Nat} {v : Value} (hk : k < K.2.2.1) : (gi_fs K fs).set k v = gi_fs K (updV fs k v) := by
  apply List.ext_getElem?
  intro j
  unfold gi_fs
  by_cases hj : j = k
  · subst hj
    rw [List.getElem?_set_self (by simp [hk]), List.getElem?_map, List.getElem?_range hk]
    simp [updV]
  · rw [List.getElem?_set_ne (Ne.symm hj), List.getElem?_map, List.getElem?_map]
    by_cases hn : j < K.2.2.1
    · rw [List.getElem?_range hn]
      simp [updV, hj]
    · rw [List.getElem?_eq_none (by simp; omega)]
      rfl
section GI
variable {K : mr_Kd} {cc : ByteArray} {mc ms h pc : Nat} {Post : gi_U → Prop} {G : gi_T} {lv st : List Value} {fs : Nat → Value} {xs : List gi_X} {x y v : Int32}
theorem gi_iconst (hG : gi_Cl K cc mc ms Post h G) (n : Nat) {z : Int} (hd : decode cc pc = .ok (.iconst z, 1)) (hz : Int32.ofInt z = nI n) (kk : G (pc + 1) lv (.int (nI n) :: st) fs xs) : G pc lv st fs xs := by
  obtain ⟨p, l, e, R, s, m, args, below, meth, c, A, D, hok, hx, hb, hr, hk0, hm, hown, hts, hA, hR, hin, rfl⟩ := hG
  intro ls H locs hl hP hK hD hS
  exact lv_iconst hx hb hd hz (kk ls H locs hl hP hK hD hS)
theorem gi_bipush (hG : gi_Cl K cc mc ms Post h G) (v : Int32) {z : Int} (hd : decode cc pc = .ok (.bipush z, 2)) (hz : (Int8.ofInt z).toInt32 = v) (kk : G (pc + 2) lv (.int v :: st) fs xs) : G pc lv st fs xs := by
  obtain ⟨p, l, e, R, s, m, args, below, meth, c, A, D, hok, hx, hb, hr, hk0, hm, hown, hts, hA, hR, hin, rfl⟩ := hG
  intro ls H locs hl hP hK hD hS
  exact lv_bipush hx hb hd hz (kk ls H locs hl hP hK hD hS)
theorem gi_sipush (hG : gi_Cl K cc mc ms Post h G) (v : Int32) {z : Int} (hd : decode cc pc = .ok (.sipush z, 3)) (hz : (Int16.ofInt z).toInt32 = v) (kk : G (pc + 3) lv (.int v :: st) fs xs) : G pc lv st fs xs := by
  obtain ⟨p, l, e, R, s, m, args, below, meth, c, A, D, hok, hx, hb, hr, hk0, hm, hown, hts, hA, hR, hin, rfl⟩ := hG
  intro ls H locs hl hP hK hD hS
  exact lv_sipush hx hb hd hz (kk ls H locs hl hP hK hD hS)
theorem gi_ldc (hG : gi_Cl K cc mc ms Post h G) (v : Int32) {idx : Nat} (hq : Cond.constant K.1 idx v ∈ lw_all) (hd : decode cc pc = .ok (.ldc idx, 2)) (kk : G (pc + 2) lv (.int v :: st) fs xs) : G pc lv st fs xs := by
  obtain ⟨p, l, e, R, s, m, args, below, meth, c, A, D, hok, hx, hb, hr, hk0, hm, hown, hts, hA, hR, hin, rfl⟩ := hG
  intro ls H locs hl hP hK hD hS
  exact lv_ldc hx hb hown (hts _ hq) hd (kk ls H locs hl hP hK hD hS)
theorem gi_goto (hG : gi_Cl K cc mc ms Post h G) (t : Nat) {off : Int} (hd : decode cc pc = .ok (.goto off, 3)) (ht : (pc : Int) + off = (t : Int)) (kk : G t lv st fs xs) : G pc lv st fs xs := by
  obtain ⟨p, l, e, R, s, m, args, below, meth, c, A, D, hok, hx, hb, hr, hk0, hm, hown, hts, hA, hR, hin, rfl⟩ := hG
  intro ls H locs hl hP hK hD hS
  exact lv_goto hx hb hd ht (kk ls H locs hl hP hK hD hS)
theorem gi_icmp_ge (hG : gi_Cl K cc mc ms Post h G) (t : Nat) {off : Int} (hd : decode cc pc = .ok (.if_icmp .ge off, 3)) (ht : (pc : Int) + off = (t : Int)) (kt : y ≤ x → G t lv st fs xs) (kf : ¬ y ≤ x → G (pc + 3) lv st fs xs) : G pc lv (.int y :: .int x :: st) fs xs := by
  obtain ⟨p, l, e, R, s, m, args, below, meth, c, A, D, hok, hx, hb, hr, hk0, hm, hown, hts, hA, hR, hin, rfl⟩ := hG
  intro ls H locs hl hP hK hD hS
  exact lv_icmp_ge hx hb hd ht (fun q => kt q ls H locs hl hP hK hD hS) (fun q => kf q ls H locs hl hP hK hD hS)
theorem gi_icmp_le (hG : gi_Cl K cc mc ms Post h G) (t : Nat) {off : Int} (hd : decode cc pc = .ok (.if_icmp .le off, 3)) (ht : (pc : Int) + off = (t : Int)) (kt : x ≤ y → G t lv st fs xs) (kf : ¬ x ≤ y → G (pc + 3) lv st fs xs) : G pc lv (.int y :: .int x :: st) fs xs := by
  obtain ⟨p, l, e, R, s, m, args, below, meth, c, A, D, hok, hx, hb, hr, hk0, hm, hown, hts, hA, hR, hin, rfl⟩ := hG
  intro ls H locs hl hP hK hD hS
  exact lv_icmp_le hx hb hd ht (fun q => kt q ls H locs hl hP hK hD hS) (fun q => kf q ls H locs hl hP hK hD hS)
theorem gi_iload0 (hG : gi_Cl K cc mc ms Post h G) {r : List Value} (hd : decode cc pc = .ok (.iload_n 0, 1)) (kk : G (pc + 1) (.int x :: r) (.int x :: st) fs xs) : G pc (.int x :: r) st fs xs := by
  obtain ⟨p, l, e, R, s, m, args, below, meth, c, A, D, hok, hx, hb, hr, hk0, hm, hown, hts, hA, hR, hin, rfl⟩ := hG
  intro ls H locs hl hP hK hD hS
  exact lv_iload_n hx hb hd rfl (hl.2.2.2.1 0 (.int x) rfl rfl) (kk ls H locs hl hP hK hD hS)
theorem gi_iload1 (hG : gi_Cl K cc mc ms Post h G) {a0 : Value} {r : List Value} (hd : decode cc pc = .ok (.iload_n 1, 1)) (kk : G (pc + 1) (a0 :: .int x :: r) (.int x :: st) fs xs) : G pc (a0 :: .int x :: r) st fs xs := by
  obtain ⟨p, l, e, R, s, m, args, below, meth, c, A, D, hok, hx, hb, hr, hk0, hm, hown, hts, hA, hR, hin, rfl⟩ := hG
  intro ls H locs hl hP hK hD hS
  exact lv_iload_n hx hb hd rfl (hl.2.2.2.1 1 (.int x) rfl rfl) (kk ls H locs hl hP hK hD hS)
theorem gi_iload2 (hG : gi_Cl K cc mc ms Post h G) {a0 a1 : Value} {r : List Value} (hd : decode cc pc = .ok (.iload_n 2, 1)) (kk : G (pc + 1) (a0 :: a1 :: .int x :: r) (.int x :: st) fs xs) : G pc (a0 :: a1 :: .int x :: r) st fs xs := by
  obtain ⟨p, l, e, R, s, m, args, below, meth, c, A, D, hok, hx, hb, hr, hk0, hm, hown, hts, hA, hR, hin, rfl⟩ := hG
  intro ls H locs hl hP hK hD hS
  exact lv_iload_n hx hb hd rfl (hl.2.2.2.1 2 (.int x) rfl rfl) (kk ls H locs hl hP hK hD hS)
theorem gi_aload0 (hG : gi_Cl K cc mc ms Post h G) {r : List Value} {b : Nat} (hd : decode cc pc = .ok (.aload_n 0, 1)) (kk : G (pc + 1) (.ref b :: r) (.ref b :: st) fs xs) : G pc (.ref b :: r) st fs xs := by
  obtain ⟨p, l, e, R, s, m, args, below, meth, c, A, D, hok, hx, hb, hr, hk0, hm, hown, hts, hA, hR, hin, rfl⟩ := hG
  intro ls H locs hl hP hK hD hS
  exact lv_aload_n hx hb hd rfl (hl.2.2.2.1 0 (.ref b) rfl rfl) (kk ls H locs hl hP hK hD hS)
theorem gi_newa_int (hG : gi_Cl K cc mc ms Post h G) (n : Nat) (hn : n < 2 ^ 20) (hq : Cond.arrayClass .int ∈ lw_all) (hd : decode cc pc = .ok (.newarray .int, 2)) (hc : xs.length + 1 ≤ mc) (hs : gi_sl xs + n ≤ ms) (kk : ∀ (q : Nat) (cA : ClassId), G (pc + 2) lv (.ref q :: st) fs ((q, cA, .int, n) :: xs)) : G pc lv (.int (nI n) :: st) fs xs := by
  obtain ⟨p, l, e, R, s, m, args, below, meth, c, A, D, hok, hx, hb, hr, hk0, hm, hown, hts, hA, hR, hin, rfl⟩ := hG
  intro ls H locs hl hP hK hD hS
  subst hR
  refine va_newa (atype := .int) (ty := .int) (N' := n) (a0 := (n, .inl (fun _ => 0))) hx hb (hts _ hq) rfl hK hP hD hS hA (fun _ => rfl) (nI_pos (by omega)) (nI_clamp (by omega)) (by show n * 4 ≤ _; omega) hc hs hd (fun q cA H1 hK1 hP1 hD1 hS1 => ?_)
  have e1 : gi_ws K h fs xs ++ [(q, .inl (cA, n, .inl (fun _ => 0)))] = gi_ws K h fs ((q, cA, .int, n) :: xs) := gi_ws_a (x := (q, cA, .int, n))
  have e2 : gi_tys xs ++ [(cA, .int)] = gi_tys ((q, cA, .int, n) :: xs) := gi_tys_a (x := (q, cA, .int, n))
  have e3 : gi_sl ((q, cA, .int, n) :: xs) = gi_sl xs + n := gi_sl_a
  have e4 : ((q, cA, FieldType.int, n) :: xs : List gi_X).length = xs.length + 1 := rfl
  rw [e1] at hP1 hD1
  rw [e2] at hK1
  have k1 := kk q cA ls H1 locs hl hP1 hK1 hD1 hS1
  rw [e3, e4] at k1
  exact k1
theorem gi_newa_byte (hG : gi_Cl K cc mc ms Post h G) (n : Nat) (hn : n < 2 ^ 20) (hq : Cond.arrayClass .byte ∈ lw_all) (hd : decode cc pc = .ok (.newarray .byte, 2)) (hc : xs.length + 1 ≤ mc) (hs : gi_sl xs + n ≤ ms) (kk : ∀ (q : Nat) (cA : ClassId), G (pc + 2) lv (.ref q :: st) fs ((q, cA, .byte, n) :: xs)) : G pc lv (.int (nI n) :: st) fs xs := by
  obtain ⟨p, l, e, R, s, m, args, below, meth, c, A, D, hok, hx, hb, hr, hk0, hm, hown, hts, hA, hR, hin, rfl⟩ := hG
  intro ls H locs hl hP hK hD hS
  subst hR
  refine va_newa (atype := .byte) (ty := .byte) (N' := n) (a0 := (n, .inl (fun _ => 0))) hx hb (hts _ hq) rfl hK hP hD hS hA (fun _ => rfl) (nI_pos (by omega)) (nI_clamp (by omega)) (by show n * 1 ≤ _; omega) hc hs hd (fun q cA H1 hK1 hP1 hD1 hS1 => ?_)
  have e1 : gi_ws K h fs xs ++ [(q, .inl (cA, n, .inl (fun _ => 0)))] = gi_ws K h fs ((q, cA, .byte, n) :: xs) := gi_ws_a (x := (q, cA, .byte, n))
  have e2 : gi_tys xs ++ [(cA, .byte)] = gi_tys ((q, cA, .byte, n) :: xs) := gi_tys_a (x := (q, cA, .byte, n))
  have e3 : gi_sl ((q, cA, .byte, n) :: xs) = gi_sl xs + n := gi_sl_a
  have e4 : ((q, cA, FieldType.byte, n) :: xs : List gi_X).length = xs.length + 1 := rfl
  rw [e1] at hP1 hD1
  rw [e2] at hK1
  have k1 := kk q cA ls H1 locs hl hP1 hK1 hD1 hS1
  rw [e3, e4] at k1
  exact k1
theorem gi_newa_boolean (hG : gi_Cl K cc mc ms Post h G) (n : Nat) (hn : n < 2 ^ 20) (hq : Cond.arrayClass .boolean ∈ lw_all) (hd : decode cc pc = .ok (.newarray .boolean, 2)) (hc : xs.length + 1 ≤ mc) (hs : gi_sl xs + n ≤ ms) (kk : ∀ (q : Nat) (cA : ClassId), G (pc + 2) lv (.ref q :: st) fs ((q, cA, .boolean, n) :: xs)) : G pc lv (.int (nI n) :: st) fs xs := by
  obtain ⟨p, l, e, R, s, m, args, below, meth, c, A, D, hok, hx, hb, hr, hk0, hm, hown, hts, hA, hR, hin, rfl⟩ := hG
  intro ls H locs hl hP hK hD hS
  subst hR
  refine va_newa (atype := .boolean) (ty := .boolean) (N' := n) (a0 := (n, .inl (fun _ => 0))) hx hb (hts _ hq) rfl hK hP hD hS hA (fun _ => rfl) (nI_pos (by omega)) (nI_clamp (by omega)) (by show n * 1 ≤ _; omega) hc hs hd (fun q cA H1 hK1 hP1 hD1 hS1 => ?_)
  have e1 : gi_ws K h fs xs ++ [(q, .inl (cA, n, .inl (fun _ => 0)))] = gi_ws K h fs ((q, cA, .boolean, n) :: xs) := gi_ws_a (x := (q, cA, .boolean, n))
  have e2 : gi_tys xs ++ [(cA, .boolean)] = gi_tys ((q, cA, .boolean, n) :: xs) := gi_tys_a (x := (q, cA, .boolean, n))
  have e3 : gi_sl ((q, cA, .boolean, n) :: xs) = gi_sl xs + n := gi_sl_a
  have e4 : ((q, cA, FieldType.boolean, n) :: xs : List gi_X).length = xs.length + 1 := rfl
  rw [e1] at hP1 hD1
  rw [e2] at hK1
  have k1 := kk q cA ls H1 locs hl hP1 hK1 hD1 hS1
  rw [e3, e4] at k1
  exact k1
theorem gi_putI (hG : gi_Cl K cc mc ms Post h G) (k : Nat) (hk : k < K.2.2.1) {idx : Nat} (hq : Cond.fieldLink K.1 idx (K.2.1 k).1 (K.2.1 k).2.1 (K.2.1 k).2.2.1 ∈ lw_all) (hfin : (K.2.1 k).2.2.2 = false) (hty : parseFieldDescriptor (K.2.1 k).2.2.1 = some .int) (hd : decode cc pc = .ok (.putfield idx, 3)) (kk : G (pc + 3) lv st (updV fs k (.int x)) xs) : G pc lv (.int x :: .ref h :: st) fs xs := by
  obtain ⟨p, l, e, R, s, m, args, below, meth, c, A, D, hok, hx, hb, hr, hk0, hm, hown, hts, hA, hR, hin, rfl⟩ := hG
  intro ls H locs hl hP hK hD hS
  obtain ⟨ty0, hty0⟩ := hok.2.2.1
  refine va_put (D := D) (ci := K.2.2.2.1) (v := .int x) (ty := .int) (C := K.1) (T := K.2.1) (N := K.2.2.1) hx hb hts hok.1 ty0 hty0 hok.2.2.2.1 hown hK hP hD hS 0 rfl hok.2.1 k hk (hts _ hq) (fun _ h9 => h9) hfin  hty rfl rfl (by simp [gi_fs]; exact hk) hd (fun H1 locs1 hP1 hD1 hS1 => ?_)
  rw [gi_fs_set hk] at hP1 hD1
  exact kk ls H1 locs1 hl hP1 hK hD1 hS1
theorem gi_putA (hG : gi_Cl K cc mc ms Post h G) {q : Nat} {ty : FieldType} (k : Nat) (hk : k < K.2.2.1) {idx : Nat} (hq : Cond.fieldLink K.1 idx (K.2.1 k).1 (K.2.1 k).2.1 (K.2.1 k).2.2.1 ∈ lw_all) (hfin : (K.2.1 k).2.2.2 = false) (hty : parseFieldDescriptor (K.2.1 k).2.2.1 = some (.array ty)) (hd : decode cc pc = .ok (.putfield idx, 3)) (kk : G (pc + 3) lv st (updV fs k (.ref q)) xs) : G pc lv (.ref q :: .ref h :: st) fs xs := by
  obtain ⟨p, l, e, R, s, m, args, below, meth, c, A, D, hok, hx, hb, hr, hk0, hm, hown, hts, hA, hR, hin, rfl⟩ := hG
  intro ls H locs hl hP hK hD hS
  obtain ⟨ty0, hty0⟩ := hok.2.2.1
  refine va_put (D := D) (ci := K.2.2.2.1) (v := .ref q) (ty := .array ty) (C := K.1) (T := K.2.1) (N := K.2.2.1) hx hb hts hok.1 ty0 hty0 hok.2.2.2.1 hown hK hP hD hS 0 rfl hok.2.1 k hk (hts _ hq) (fun _ h9 => h9) hfin  hty rfl rfl (by simp [gi_fs]; exact hk) hd (fun H1 locs1 hP1 hD1 hS1 => ?_)
  rw [gi_fs_set hk] at hP1 hD1
  exact kk ls H1 locs1 hl hP1 hK hD1 hS1
theorem gi_putF (hG : gi_Cl K cc mc ms Post h G) {q : Nat} {ty : FieldType} (k : Nat) (hk : k < K.2.2.1) {idx : Nat} (hq : Cond.fieldLink K.1 idx (K.2.1 k).1 (K.2.1 k).2.1 (K.2.1 k).2.2.1 ∈ lw_all) (hfin : (K.2.1 k).2.2.2 = true) (hdecl : (K.2.1 k).1 = K.1) (hty : parseFieldDescriptor (K.2.1 k).2.2.1 = some (.array ty)) (hd : decode cc pc = .ok (.putfield idx, 3)) (kk : G (pc + 3) lv st (updV fs k (.ref q)) xs) : G pc lv (.ref q :: .ref h :: st) fs xs := by
  obtain ⟨p, l, e, R, s, m, args, below, meth, c, A, D, hok, hx, hb, hr, hk0, hm, hown, hts, hA, hR, hin, rfl⟩ := hG
  intro ls H locs hl hP hK hD hS
  obtain ⟨ty0, hty0⟩ := hok.2.2.1
  refine va_putF (D := D) (ci := K.2.2.2.1) (v := .ref q) (ty := .array ty) (C := K.1) (T := K.2.1) (N := K.2.2.1) hx hb hts hok.1 ty0 hty0 hok.2.2.2.1 hown hK hP hD hS 0 rfl hok.2.1 k hk (hts _ hq) (fun _ h9 => h9) hfin hin hdecl hty rfl rfl (by simp [gi_fs]; exact hk) hd (fun H1 locs1 hP1 hD1 hS1 => ?_)
  rw [gi_fs_set hk] at hP1 hD1
  exact kk ls H1 locs1 hl hP1 hK hD1 hS1
theorem gi_obj (hG : gi_Cl K cc mc ms Post h G) {idx : Nat} (hq : Cond.methodLink K.1 idx objectInit ∈ lw_all) (hd : decode cc pc = .ok (.invokespecial idx, 3)) (kk : G (pc + 3) lv [] fs xs) : G pc lv [.ref h] fs xs := by
  obtain ⟨p, l, e, R, s, m, args, below, meth, c, A, D, hok, hx, hb, hr, hk0, hm, hown, hts, hA, hR, hin, rfl⟩ := hG
  intro ls H locs hl hP hK hD hS
  subst hR
  refine W.objInit hx hb hown (hts _ hq) (hts _ q25) (hts _ q26) rfl (by rw [hm]; exact hl.2.1) rfl hd (Nat.le_of_ble_eq_true rfl) (Nat.le_of_ble_eq_true rfl) ?_
  exact kk ls H locs hl hP hK hD hS
theorem gi_vret (hG : gi_Cl K cc mc ms Post h G) (u : gi_U) (hd : decode cc pc = .ok (.return_, 1)) (hc : xs.length = mc) (hs : gi_sl xs = ms) (hp : Post u) (hf : ∀ k, k < K.2.2.1 → fs k = mr_fld K u.1 u.2.2.1 k) (hw : xs.reverse.map gi_x = K.2.2.2.2.map (mr_arw u.2.1 u.1 u.2.2.2)) (ht : gi_tys xs = mr_tys K u.2.1)  : G pc lv [] fs xs := by
  obtain ⟨p, l, e, R, s, m, args, below, meth, c, A, D, hok, hx, hb, hr, hk0, hm, hown, hts, hA, hR, hin, rfl⟩ := hG
  intro ls H locs hl hP hK hD hS
  subst hc
  subst hs
  have hw : gi_ws K h fs xs = mr_ws K h u.1 u.2.1 u.2.2.1 u.2.2.2 := by
    unfold gi_ws mr_ws
    rw [hw]
    congr 4
    unfold gi_fs mr_fs
    exact List.map_congr_left (fun k hk => hf k (List.mem_range.mp hk))
  rw [hw] at hP hD
  rw [ht] at hK
  exact W.vret hx hb hr (fun t ht' hW => ⟨⟨u, rfl, hp, by rw [ht']; exact hP, va_K.moved hW.alike hK, hD⟩, hS.F ht'⟩) hS.2.2 hd hk0
end GI
/-- the contract of a constructor, of two int arguments -/
def gi_Con (K : mr_Kd) (y : MethodName) (cc : ByteArray) (mc ms : Nat) (a b : Int32) (fs : Nat → Value) (Post : gi_U → Prop) : Prop := ∀ (l : Launch) (D : va_G) (h sz : Nat), Met l y (ws_ y cc 3 none) { frames := 1, cells := mc, slots := ms, locals := 12 } (va_Pc [.ref h, .int a, .int b] (fun U => U.heap.size = sz ∧ va_P D vwCl (gi_ws K h fs []) U.heap ∧ va_K D vwCl [] U ∧ va_D (fun _ => True) (gi_ws K h fs []))) (va_Qv Post (gi_B K h D (va_A (gi_ws K h fs []) sz)) (va_A (gi_ws K h fs []) sz)) mc ms (va_A (gi_ws K h fs []) sz)
theorem gi_con {K : mr_Kd} {y : MethodName} {cc : ByteArray} {mc ms : Nat} {a b : Int32} {fs : Nat → Value} {Post : gi_U → Prop} (hok : mr_ok K) (hy : plainName y.cls = true) (hcls : y.cls = K.1) (hnm : y.name = "<init>") (body : ∀ (h : Nat) (G : gi_T), gi_Cl K cc mc ms Post h G → G 0 [.ref h, .int a, .int b] [] fs []) : gi_Con K y cc mc ms a b fs Post := by
  intro l D h sz
  refine Met.ofW (cc := cc) (maxL := 3) (ret := none) hy rfl ?_
  intro p e s m args below meth c s₁ B hml hv
  obtain ⟨rfl, hsz, hP, hK, hD0⟩ := hv
  have hx := B.exec
  have hb := B.bytes
  have hr := B.returns
  have hts := atoms_spec (ws := ws_ y cc 3 none) B.pre
  have hts : ∀ w ∈ lw_all, w.before _ s = true := fun w h => hts w (List.mem_cons_of_mem _ h)
  have hown : s.vm.findClass K.1 = some m.cls := by rw [← hcls]; exact findClass_of_methodNamed B.named
  have hlocks := B.notSynchronized
  have hin : meth.name = "<init>" := (name_of_methodNamed B.named B.method).1.trans hnm
  subst hsz
  have hD := hD0.self (sz := s.heap.size)
  generalize hAe : va_A (gi_ws K h fs []) s.heap.size = A at hD ⊢
  have hA : ∀ q : Nat, s.heap.size ≤ q → A q := fun q h => by rw [← hAe]; exact Or.inr h
  have hS : va_S A s.heap s.heap [] := va_S.rf
  have hl := lv_entry ([.ref h, .int a, .int b]) (n := 3) (Nat.le_of_ble_eq_true rfl)
  rw [lg_entry_eq]
  generalize (lg_sl ([.ref h, .int a, .int b]) ++ List.replicate (3 - (lg_sl ([.ref h, .int a, .int b])).length) Slot.unset).toArray = ls at hl ⊢
  have hl : lv_has ls 3 [(0, .ref h), (1, .int a), (2, .int b)] := hl
  have hl2 : mr_has ls 3 [.ref h, .int a, .int b] := by
    refine ⟨rfl, hl.1, hl.2.1, fun i v hi _ => ?_, fun v hv => ?_⟩
    · match i, hi with
      | 0, hi => cases hi; exact lv_at hl 0 rfl
      | 1, hi => cases hi; exact lv_at hl 1 rfl
      | 2, hi => cases hi; exact lv_at hl 2 rfl
      | i + 3, hi => simp at hi
    · simp only [List.mem_cons, List.not_mem_nil, or_false] at hv
      rcases hv with e | e | e
      · rw [e]; rfl
      · rw [e]; rfl
      · rw [e]; rfl
  exact body h _ ⟨p, l, e, _, s, m, _, below, meth, c, A, D, hok, hx, hb, hr, hlocks, hml, hown, hts, hA, rfl, hin, rfl⟩ ls s.heap [] hl2 hP hK hD hS
def cl4 (a : Int32) : Int32 := if nI 1 ≤ a then (if a ≤ nI 4 then a else nI 4) else nI 1
def cl8 (a : Int32) : Int32 := if nI 2 ≤ a then (if a ≤ nI 8 then a else nI 8) else nI 2
theorem cl4_ok (a : Int32) : ∃ P : Nat, 1 ≤ P ∧ P ≤ 4 ∧ cl4 a = nI P := by
  unfold cl4
  split
  · split
    · next h1 h2 =>
      obtain ⟨j, hj, rfl⟩ := nI_of (x := a) (le_nlt (by rw [i_le, i_0]; rw [i_le, nI_toInt (by omega)] at h1; omega))
      exact ⟨j, (nI_leI (by omega) hj).mp h1, (nI_leI hj (by omega)).mp h2, rfl⟩
    · exact ⟨4, by omega, by omega, rfl⟩
  · exact ⟨1, by omega, by omega, rfl⟩
theorem cl8_ok (a : Int32) : ∃ P : Nat, 2 ≤ P ∧ P ≤ 8 ∧ cl8 a = nI P := by
  unfold cl8
  split
  · split
    · next h1 h2 =>
      obtain ⟨j, hj, rfl⟩ := nI_of (x := a) (le_nlt (by rw [i_le, i_0]; rw [i_le, nI_toInt (by omega)] at h1; omega))
      exact ⟨j, (nI_leI (by omega) hj).mp h1, (nI_leI hj (by omega)).mp h2, rfl⟩
    · exact ⟨8, by omega, by omega, rfl⟩
  · exact ⟨2, by omega, by omega, rfl⟩
theorem cl_1a {mc ms h : Nat} {Post : gi_U → Prop} {G : gi_T} {a b : Int32} {st : List Value} {fs : Nat → Value} {xs : List gi_X} (hG : gi_Cl K1 cX1_init mc ms Post h G) (kk : G 141 [.ref h, .int a, .int b] (.int (cl4 a) :: st) fs xs) : G 122 [.ref h, .int a, .int b] st fs xs := by
  refine gi_iload1 hG dX1_init_122 ?_
  refine gi_iconst hG 1 dX1_init_123 (by decide) ?_
  refine gi_icmp_ge hG 131 dX1_init_124 (by decide) (fun c => ?_) (fun c => ?_)
  · show G 131 _ _ _ _
    refine gi_iload1 hG dX1_init_131 ?_
    refine gi_iconst hG 4 dX1_init_132 (by decide) ?_
    refine gi_icmp_le hG 140 dX1_init_133 (by decide) (fun c2 => ?_) (fun c2 => ?_)
    · have e : cl4 a = a := by unfold cl4; rw [if_pos c, if_pos c2]
      rw [e] at kk
      refine gi_iload1 hG dX1_init_140 ?_
      exact kk
    · have e : cl4 a = nI 4 := by unfold cl4; rw [if_pos c, if_neg c2]
      rw [e] at kk
      refine gi_iconst hG 4 dX1_init_136 (by decide) ?_
      refine gi_goto hG 141 dX1_init_137 (by decide) ?_
      exact kk
  · have e : cl4 a = nI 1 := by unfold cl4; rw [if_neg c]
    rw [e] at kk
    refine gi_iconst hG 1 dX1_init_127 (by decide) ?_
    refine gi_goto hG 141 dX1_init_128 (by decide) ?_
    exact kk
theorem cl_1b {mc ms h : Nat} {Post : gi_U → Prop} {G : gi_T} {a b : Int32} {st : List Value} {fs : Nat → Value} {xs : List gi_X} (hG : gi_Cl K1 cX1_init mc ms Post h G) (kk : G 166 [.ref h, .int a, .int b] (.int (cl8 b) :: st) fs xs) : G 145 [.ref h, .int a, .int b] st fs xs := by
  refine gi_iload2 hG dX1_init_145 ?_
  refine gi_iconst hG 2 dX1_init_146 (by decide) ?_
  refine gi_icmp_ge hG 154 dX1_init_147 (by decide) (fun c => ?_) (fun c => ?_)
  · show G 154 _ _ _ _
    refine gi_iload2 hG dX1_init_154 ?_
    refine gi_bipush hG (nI 8) dX1_init_155 (by decide) ?_
    refine gi_icmp_le hG 165 dX1_init_157 (by decide) (fun c2 => ?_) (fun c2 => ?_)
    · have e : cl8 b = b := by unfold cl8; rw [if_pos c, if_pos c2]
      rw [e] at kk
      refine gi_iload2 hG dX1_init_165 ?_
      exact kk
    · have e : cl8 b = nI 8 := by unfold cl8; rw [if_pos c, if_neg c2]
      rw [e] at kk
      refine gi_bipush hG (nI 8) dX1_init_160 (by decide) ?_
      refine gi_goto hG 166 dX1_init_162 (by decide) ?_
      exact kk
  · have e : cl8 b = nI 2 := by unfold cl8; rw [if_neg c]
    rw [e] at kk
    refine gi_iconst hG 2 dX1_init_150 (by decide) ?_
    refine gi_goto hG 166 dX1_init_151 (by decide) ?_
    exact kk
theorem cl_2a {mc ms h : Nat} {Post : gi_U → Prop} {G : gi_T} {a b : Int32} {st : List Value} {fs : Nat → Value} {xs : List gi_X} (hG : gi_Cl K2 cX2_init mc ms Post h G) (kk : G 104 [.ref h, .int a, .int b] (.int (cl4 a) :: st) fs xs) : G 85 [.ref h, .int a, .int b] st fs xs := by
  refine gi_iload1 hG dX2_init_85 ?_
  refine gi_iconst hG 1 dX2_init_86 (by decide) ?_
  refine gi_icmp_ge hG 94 dX2_init_87 (by decide) (fun c => ?_) (fun c => ?_)
  · show G 94 _ _ _ _
    refine gi_iload1 hG dX2_init_94 ?_
    refine gi_iconst hG 4 dX2_init_95 (by decide) ?_
    refine gi_icmp_le hG 103 dX2_init_96 (by decide) (fun c2 => ?_) (fun c2 => ?_)
    · have e : cl4 a = a := by unfold cl4; rw [if_pos c, if_pos c2]
      rw [e] at kk
      refine gi_iload1 hG dX2_init_103 ?_
      exact kk
    · have e : cl4 a = nI 4 := by unfold cl4; rw [if_pos c, if_neg c2]
      rw [e] at kk
      refine gi_iconst hG 4 dX2_init_99 (by decide) ?_
      refine gi_goto hG 104 dX2_init_100 (by decide) ?_
      exact kk
  · have e : cl4 a = nI 1 := by unfold cl4; rw [if_neg c]
    rw [e] at kk
    refine gi_iconst hG 1 dX2_init_90 (by decide) ?_
    refine gi_goto hG 104 dX2_init_91 (by decide) ?_
    exact kk
def fsX1 (k : Nat) : Value := if mr_isA K1 k then .null else .int 0
def fiX1 (a b : Int32) (k : Nat) : Int32 := if k = 0 then cl4 a else if k = 1 then cl8 b else if k = 5 then nI 16 else if k = 6 then nI 1 else if k = 8 then -2147483648 else if k = 9 then 2147483647 else 0
def adL : List Nat → List Nat → Nat → Nat
  | k :: ks, q :: qs, j => if j = k then q else adL ks qs j
  | _, _, _ => 0
def caL : List Nat → List ClassId → Nat → ClassId
  | k :: ks, q :: qs, j => if j = k then q else caL ks qs j
  | _, _, _ => (0 : Nat)
set_option maxHeartbeats 4000000 in
theorem ct_init {a b : Int32} : gi_Con K1 yX1_init cX1_init 15 545 a b fsX1 (fun u => u.2.2 = (fiX1 a b, fun _ _ => 0)) := by
  refine gi_con ok1 (by decide) rfl rfl ?_
  intro h G hG
  refine gi_aload0 hG dX1_init_0 ?_
  refine gi_obj hG q24 dX1_init_1 ?_
  refine gi_aload0 hG dX1_init_4 ?_
  refine gi_iconst hG 4 dX1_init_5 (by decide) ?_
  refine gi_newa_byte hG 4 (by decide) q114 dX1_init_6 (Nat.le_of_ble_eq_true rfl) (Nat.le_of_ble_eq_true rfl) (fun q0 c0 => ?_)
  refine gi_putF hG (ty := .byte) 2 (by decide) (by exact q31) rfl rfl (by decide +kernel) dX1_init_8 ?_
  refine gi_aload0 hG dX1_init_11 ?_
  refine gi_bipush hG (nI 64) dX1_init_12 (by decide) ?_
  refine gi_newa_int hG 64 (by decide) q115 dX1_init_14 (Nat.le_of_ble_eq_true rfl) (Nat.le_of_ble_eq_true rfl) (fun q1 c1 => ?_)
  refine gi_putF hG (ty := .int) 3 (by decide) (by exact q32) rfl rfl (by decide +kernel) dX1_init_16 ?_
  refine gi_aload0 hG dX1_init_19 ?_
  refine gi_bipush hG (nI 64) dX1_init_20 (by decide) ?_
  refine gi_newa_int hG 64 (by decide) q115 dX1_init_22 (Nat.le_of_ble_eq_true rfl) (Nat.le_of_ble_eq_true rfl) (fun q2 c2 => ?_)
  refine gi_putF hG (ty := .int) 4 (by decide) (by exact q33) rfl rfl (by decide +kernel) dX1_init_24 ?_
  refine gi_aload0 hG dX1_init_27 ?_
  refine gi_iconst hG 4 dX1_init_28 (by decide) ?_
  refine gi_newa_byte hG 4 (by decide) q114 dX1_init_29 (Nat.le_of_ble_eq_true rfl) (Nat.le_of_ble_eq_true rfl) (fun q3 c3 => ?_)
  refine gi_putF hG (ty := .byte) 10 (by decide) (by exact q39) rfl rfl (by decide +kernel) dX1_init_31 ?_
  refine gi_aload0 hG dX1_init_34 ?_
  refine gi_iconst hG 4 dX1_init_35 (by decide) ?_
  refine gi_newa_byte hG 4 (by decide) q114 dX1_init_36 (Nat.le_of_ble_eq_true rfl) (Nat.le_of_ble_eq_true rfl) (fun q4 c4 => ?_)
  refine gi_putF hG (ty := .byte) 11 (by decide) (by exact q40) rfl rfl (by decide +kernel) dX1_init_38 ?_
  refine gi_aload0 hG dX1_init_41 ?_
  refine gi_bipush hG (nI 8) dX1_init_42 (by decide) ?_
  refine gi_newa_byte hG 8 (by decide) q114 dX1_init_44 (Nat.le_of_ble_eq_true rfl) (Nat.le_of_ble_eq_true rfl) (fun q5 c5 => ?_)
  refine gi_putF hG (ty := .byte) 14 (by decide) (by exact q43) rfl rfl (by decide +kernel) dX1_init_46 ?_
  refine gi_aload0 hG dX1_init_49 ?_
  refine gi_bipush hG (nI 8) dX1_init_50 (by decide) ?_
  refine gi_newa_int hG 8 (by decide) q115 dX1_init_52 (Nat.le_of_ble_eq_true rfl) (Nat.le_of_ble_eq_true rfl) (fun q6 c6 => ?_)
  refine gi_putF hG (ty := .int) 15 (by decide) (by exact q44) rfl rfl (by decide +kernel) dX1_init_54 ?_
  refine gi_aload0 hG dX1_init_57 ?_
  refine gi_bipush hG (nI 64) dX1_init_58 (by decide) ?_
  refine gi_newa_byte hG 64 (by decide) q114 dX1_init_60 (Nat.le_of_ble_eq_true rfl) (Nat.le_of_ble_eq_true rfl) (fun q7 c7 => ?_)
  refine gi_putF hG (ty := .byte) 19 (by decide) (by exact q48) rfl rfl (by decide +kernel) dX1_init_62 ?_
  refine gi_aload0 hG dX1_init_65 ?_
  refine gi_bipush hG (nI 64) dX1_init_66 (by decide) ?_
  refine gi_newa_int hG 64 (by decide) q115 dX1_init_68 (Nat.le_of_ble_eq_true rfl) (Nat.le_of_ble_eq_true rfl) (fun q8 c8 => ?_)
  refine gi_putF hG (ty := .int) 20 (by decide) (by exact q49) rfl rfl (by decide +kernel) dX1_init_70 ?_
  refine gi_aload0 hG dX1_init_73 ?_
  refine gi_sipush hG (nI 160) dX1_init_74 (by decide) ?_
  refine gi_newa_byte hG 160 (by decide) q114 dX1_init_77 (Nat.le_of_ble_eq_true rfl) (Nat.le_of_ble_eq_true rfl) (fun q9 c9 => ?_)
  refine gi_putF hG (ty := .byte) 21 (by decide) (by exact q50) rfl rfl (by decide +kernel) dX1_init_79 ?_
  refine gi_aload0 hG dX1_init_82 ?_
  refine gi_bipush hG (nI 32) dX1_init_83 (by decide) ?_
  refine gi_newa_byte hG 32 (by decide) q114 dX1_init_85 (Nat.le_of_ble_eq_true rfl) (Nat.le_of_ble_eq_true rfl) (fun q10 c10 => ?_)
  refine gi_putF hG (ty := .byte) 22 (by decide) (by exact q51) rfl rfl (by decide +kernel) dX1_init_87 ?_
  refine gi_aload0 hG dX1_init_90 ?_
  refine gi_bipush hG (nI 32) dX1_init_91 (by decide) ?_
  refine gi_newa_byte hG 32 (by decide) q114 dX1_init_93 (Nat.le_of_ble_eq_true rfl) (Nat.le_of_ble_eq_true rfl) (fun q11 c11 => ?_)
  refine gi_putF hG (ty := .byte) 23 (by decide) (by exact q52) rfl rfl (by decide +kernel) dX1_init_95 ?_
  refine gi_aload0 hG dX1_init_98 ?_
  refine gi_iconst hG 5 dX1_init_99 (by decide) ?_
  refine gi_newa_byte hG 5 (by decide) q114 dX1_init_100 (Nat.le_of_ble_eq_true rfl) (Nat.le_of_ble_eq_true rfl) (fun q12 c12 => ?_)
  refine gi_putF hG (ty := .byte) 24 (by decide) (by exact q53) rfl rfl (by decide +kernel) dX1_init_102 ?_
  refine gi_aload0 hG dX1_init_105 ?_
  refine gi_bipush hG (nI 16) dX1_init_106 (by decide) ?_
  refine gi_newa_byte hG 16 (by decide) q114 dX1_init_108 (Nat.le_of_ble_eq_true rfl) (Nat.le_of_ble_eq_true rfl) (fun q13 c13 => ?_)
  refine gi_putF hG (ty := .byte) 25 (by decide) (by exact q54) rfl rfl (by decide +kernel) dX1_init_110 ?_
  refine gi_aload0 hG dX1_init_113 ?_
  refine gi_bipush hG (nI 16) dX1_init_114 (by decide) ?_
  refine gi_newa_int hG 16 (by decide) q115 dX1_init_116 (Nat.le_of_ble_eq_true rfl) (Nat.le_of_ble_eq_true rfl) (fun q14 c14 => ?_)
  refine gi_putF hG (ty := .int) 26 (by decide) (by exact q55) rfl rfl (by decide +kernel) dX1_init_118 ?_
  refine gi_aload0 hG dX1_init_121 ?_
  refine cl_1a hG ?_
  show G 141 _ _ _ _
  refine gi_putI hG 0 (by decide) (by exact q29) rfl (by decide +kernel) dX1_init_141 ?_
  refine gi_aload0 hG dX1_init_144 ?_
  refine cl_1b hG ?_
  show G 166 _ _ _ _
  refine gi_putI hG 1 (by decide) (by exact q30) rfl (by decide +kernel) dX1_init_166 ?_
  refine gi_aload0 hG dX1_init_169 ?_
  refine gi_bipush hG (nI 16) dX1_init_170 (by decide) ?_
  refine gi_putI hG 5 (by decide) (by exact q34) rfl (by decide +kernel) dX1_init_172 ?_
  refine gi_aload0 hG dX1_init_175 ?_
  refine gi_iconst hG 1 dX1_init_176 (by decide) ?_
  refine gi_putI hG 6 (by decide) (by exact q35) rfl (by decide +kernel) dX1_init_177 ?_
  refine gi_aload0 hG dX1_init_180 ?_
  refine gi_ldc hG (-2147483648) (by exact q27) dX1_init_181 ?_
  refine gi_putI hG 8 (by decide) (by exact q37) rfl (by decide +kernel) dX1_init_183 ?_
  refine gi_aload0 hG dX1_init_186 ?_
  refine gi_ldc hG (2147483647) (by exact q28) dX1_init_187 ?_
  refine gi_putI hG 9 (by decide) (by exact q38) rfl (by decide +kernel) dX1_init_189 ?_
  refine gi_vret hG (adL [2, 3, 4, 10, 11, 14, 15, 19, 20, 21, 22, 23, 24, 25, 26] [q0, q1, q2, q3, q4, q5, q6, q7, q8, q9, q10, q11, q12, q13, q14], caL [2, 3, 4, 10, 11, 14, 15, 19, 20, 21, 22, 23, 24, 25, 26] [c0, c1, c2, c3, c4, c5, c6, c7, c8, c9, c10, c11, c12, c13, c14], (fiX1 a b, fun _ _ => 0)) dX1_init_192 rfl rfl rfl (fun k hk => ?_) rfl rfl
  have hk : k < 28 := hk
  match k, hk with
  | 0, _ => rfl
  | 1, _ => rfl
  | 2, _ => rfl
  | 3, _ => rfl
  | 4, _ => rfl
  | 5, _ => rfl
  | 6, _ => rfl
  | 7, _ => rfl
  | 8, _ => rfl
  | 9, _ => rfl
  | 10, _ => rfl
  | 11, _ => rfl
  | 12, _ => rfl
  | 13, _ => rfl
  | 14, _ => rfl
  | 15, _ => rfl
  | 16, _ => rfl
  | 17, _ => rfl
  | 18, _ => rfl
  | 19, _ => rfl
  | 20, _ => rfl
  | 21, _ => rfl
  | 22, _ => rfl
  | 23, _ => rfl
  | 24, _ => rfl
  | 25, _ => rfl
  | 26, _ => rfl
  | 27, _ => rfl
  | k + 28, hk => omega
def fsX2 (k : Nat) : Value := if mr_isA K2 k then .null else .int 0
def fiX2 (a b : Int32) (k : Nat) : Int32 := if k = 0 then cl4 a else if k = 4 then nI 16 else if k = 5 then nI 1 else if k = 6 then nI 0 else if k = 7 then -2147483648 else if k = 8 then 2147483647 else if k = 12 then nI 0 else 0


set_option maxHeartbeats 4000000 in
theorem cm_init {a b : Int32} : gi_Con K2 yX2_init cX2_init 6 172 a b fsX2 (fun u => u.2.2 = (fiX2 a b, fun _ _ => 0)) := by
  refine gi_con ok2 (by decide) rfl rfl ?_
  intro h G hG
  refine gi_aload0 hG dX2_init_0 ?_
  refine gi_obj hG q220 dX2_init_1 ?_
  refine gi_aload0 hG dX2_init_4 ?_
  refine gi_iconst hG 4 dX2_init_5 (by decide) ?_
  refine gi_newa_int hG 4 (by decide) q115 dX2_init_6 (Nat.le_of_ble_eq_true rfl) (Nat.le_of_ble_eq_true rfl) (fun q0 c0 => ?_)
  refine gi_putA hG (ty := .int) 1 (by decide) (by exact q224) rfl (by decide +kernel) dX2_init_8 ?_
  refine gi_aload0 hG dX2_init_11 ?_
  refine gi_bipush hG (nI 64) dX2_init_12 (by decide) ?_
  refine gi_newa_int hG 64 (by decide) q115 dX2_init_14 (Nat.le_of_ble_eq_true rfl) (Nat.le_of_ble_eq_true rfl) (fun q1 c1 => ?_)
  refine gi_putA hG (ty := .int) 2 (by decide) (by exact q225) rfl (by decide +kernel) dX2_init_16 ?_
  refine gi_aload0 hG dX2_init_19 ?_
  refine gi_bipush hG (nI 64) dX2_init_20 (by decide) ?_
  refine gi_newa_int hG 64 (by decide) q115 dX2_init_22 (Nat.le_of_ble_eq_true rfl) (Nat.le_of_ble_eq_true rfl) (fun q2 c2 => ?_)
  refine gi_putA hG (ty := .int) 3 (by decide) (by exact q226) rfl (by decide +kernel) dX2_init_24 ?_
  refine gi_aload0 hG dX2_init_27 ?_
  refine gi_bipush hG (nI 16) dX2_init_28 (by decide) ?_
  refine gi_putI hG 4 (by decide) (by exact q227) rfl (by decide +kernel) dX2_init_30 ?_
  refine gi_aload0 hG dX2_init_33 ?_
  refine gi_iconst hG 1 dX2_init_34 (by decide) ?_
  refine gi_putI hG 5 (by decide) (by exact q228) rfl (by decide +kernel) dX2_init_35 ?_
  refine gi_aload0 hG dX2_init_38 ?_
  refine gi_iconst hG 0 dX2_init_39 (by decide) ?_
  refine gi_putI hG 6 (by decide) (by exact q229) rfl (by decide +kernel) dX2_init_40 ?_
  refine gi_aload0 hG dX2_init_43 ?_
  refine gi_ldc hG (-2147483648) (by exact q221) dX2_init_44 ?_
  refine gi_putI hG 7 (by decide) (by exact q230) rfl (by decide +kernel) dX2_init_46 ?_
  refine gi_aload0 hG dX2_init_49 ?_
  refine gi_ldc hG (2147483647) (by exact q222) dX2_init_50 ?_
  refine gi_putI hG 8 (by decide) (by exact q231) rfl (by decide +kernel) dX2_init_52 ?_
  refine gi_aload0 hG dX2_init_55 ?_
  refine gi_bipush hG (nI 8) dX2_init_56 (by decide) ?_
  refine gi_newa_int hG 8 (by decide) q115 dX2_init_58 (Nat.le_of_ble_eq_true rfl) (Nat.le_of_ble_eq_true rfl) (fun q3 c3 => ?_)
  refine gi_putA hG (ty := .int) 9 (by decide) (by exact q232) rfl (by decide +kernel) dX2_init_60 ?_
  refine gi_aload0 hG dX2_init_63 ?_
  refine gi_bipush hG (nI 16) dX2_init_64 (by decide) ?_
  refine gi_newa_boolean hG 16 (by decide) q263 dX2_init_66 (Nat.le_of_ble_eq_true rfl) (Nat.le_of_ble_eq_true rfl) (fun q4 c4 => ?_)
  refine gi_putA hG (ty := .boolean) 10 (by decide) (by exact q233) rfl (by decide +kernel) dX2_init_68 ?_
  refine gi_aload0 hG dX2_init_71 ?_
  refine gi_bipush hG (nI 16) dX2_init_72 (by decide) ?_
  refine gi_newa_int hG 16 (by decide) q115 dX2_init_74 (Nat.le_of_ble_eq_true rfl) (Nat.le_of_ble_eq_true rfl) (fun q5 c5 => ?_)
  refine gi_putA hG (ty := .int) 11 (by decide) (by exact q234) rfl (by decide +kernel) dX2_init_76 ?_
  refine gi_aload0 hG dX2_init_79 ?_
  refine gi_iconst hG 0 dX2_init_80 (by decide) ?_
  refine gi_putI hG 12 (by decide) (by exact q235) rfl (by decide +kernel) dX2_init_81 ?_
  refine gi_aload0 hG dX2_init_84 ?_
  refine cl_2a hG ?_
  show G 104 _ _ _ _
  refine gi_putI hG 0 (by decide) (by exact q223) rfl (by decide +kernel) dX2_init_104 ?_
  refine gi_vret hG (adL [1, 2, 3, 9, 10, 11] [q0, q1, q2, q3, q4, q5], caL [1, 2, 3, 9, 10, 11] [c0, c1, c2, c3, c4, c5], (fiX2 a b, fun _ _ => 0)) dX2_init_107 rfl rfl rfl (fun k hk => ?_) rfl rfl
  have hk : k < 13 := hk
  match k, hk with
  | 0, _ => rfl
  | 1, _ => rfl
  | 2, _ => rfl
  | 3, _ => rfl
  | 4, _ => rfl
  | 5, _ => rfl
  | 6, _ => rfl
  | 7, _ => rfl
  | 8, _ => rfl
  | 9, _ => rfl
  | 10, _ => rfl
  | 11, _ => rfl
  | 12, _ => rfl
  | k + 13, hk => omega
end
section
set_option maxRecDepth 100000
set_option linter.unusedVariables false
/-! THE INVARIANT between the component (fi, ar) and the reference (fj, br), and each call's law -/
def InvP (P B M : Nat) (sz mf rf : Nat → Nat) (hs : Nat → Bool) (fi : Nat → Int32) (ar : Nat → Nat → Int32) (fj : Nat → Int32) (br : Nat → Nat → Int32) : Prop :=
  (1 ≤ P ∧ P ≤ 4 ∧ fi 0 = nI P ∧ fj 0 = nI P) ∧ (fi 1 = nI B ∧ 2 ≤ B ∧ B ≤ 8) ∧ (1 ≤ M ∧ M ≤ 16 ∧ fi 5 = nI M ∧ fj 4 = nI M) ∧ (fi 6 = fj 5 ∧ fi 7 = fj 6 ∧ fi 8 = fj 7 ∧ fi 9 = fj 8) ∧
  (∀ s, s < 4 → sz s ≤ 16 ∧ ar 2 s = nI (sz s) ∧ br 1 s = nI (sz s)) ∧ (∀ n, n < 64 → n % 16 < sz (n / 16) → ar 3 n = br 2 n ∧ ar 4 n = br 3 n) ∧
  (∀ i, i < 4 → mf i ≤ 3 ∧ ar 10 i = nI (mf i) ∧ br 9 i = nI (mf i)) ∧ (∀ i, i < 4 → rf i ≤ 3 ∧ ar 11 i = nI (rf i) ∧ br 9 (4 + i) = nI (rf i)) ∧
  (∀ k, k < 16 → br 10 k = bI (hs k)) ∧ fi 16 = fj 12 ∧ Out P hs (br 11) fi ar 64 ∧ (∀ q, q ≤ 4 → ar 24 q = nI (ol P hs (16 * q)).length)
def Inv (fi : Nat → Int32) (ar : Nat → Nat → Int32) (fj : Nat → Int32) (br : Nat → Nat → Int32) : Prop := ∃ (P B M : Nat) (sz mf rf : Nat → Nat) (hs : Nat → Bool), InvP P B M sz mf rf hs fi ar fj br
/-- what the law needs of a call with an answer -/
def LawI (y1 : MethodName) (c1 : ByteArray) (n1 f1 o1 : Nat) (y2 : MethodName) (c2 : ByteArray) (n2 f2 o2 : Nat) (ty : FieldType) (avs : List Value) (fi : Nat → Int32) (ar : Nat → Nat → Int32) (fj : Nat → Int32) (br : Nat → Nat → Int32) : Prop := ∃ MP : mr_PT, mr_Con K2 y2 c2 n2 (some ty) f2 o2 avs fj br MP ∧ mr_Con K1 y1 c1 n1 (some ty) f1 o1 avs fi ar (fun r fi' ar' => ∀ r2 fj' br', MP r2 fj' br' → r = r2 ∧ Inv fi' ar' fj' br')
theorem LawI.same {y1 : MethodName} {c1 : ByteArray} {n1 f1 o1 : Nat} {y2 : MethodName} {c2 : ByteArray} {n2 f2 o2 : Nat} {ty : FieldType} {avs : List Value} {fi : Nat → Int32} {ar : Nat → Nat → Int32} {fj : Nat → Int32} {br : Nat → Nat → Int32} {v1 v2 : Int32} (hI : Inv fi ar fj br) (hv : v1 = v2) (hC : mr_Con K2 y2 c2 n2 (some ty) f2 o2 avs fj br (fun r fi' ar' => fi' = fj ∧ ar' = br ∧ r = v2)) (hD : mr_Con K1 y1 c1 n1 (some ty) f1 o1 avs fi ar (fun r fi' ar' => fi' = fi ∧ ar' = ar ∧ r = v1)) : LawI y1 c1 n1 f1 o1 y2 c2 n2 f2 o2 ty avs fi ar fj br := by
  refine ⟨_, hC, hD.mono ?_⟩
  rintro r fi' ar' ⟨rfl, rfl, rfl⟩ r2 fj' br' ⟨rfl, rfl, rfl⟩
  exact ⟨hv, hI⟩
theorem sum4 {P n a : Nat} {hs : Nat → Bool} (hP : 1 ≤ P) (hP4 : P ≤ 4) : ∀ n, (sgn P hs 0 n).length + (sgn P hs 1 n).length + (sgn P hs 2 n).length + (sgn P hs 3 n).length = ck hs n
  | 0 => rfl
  | n + 1 => by
    have ih := sum4 (P := P) (n := n) (a := a) (hs := hs) hP hP4 n
    have hm : n % P < 4 := Nat.lt_of_lt_of_le (Nat.mod_lt _ hP) hP4
    rw [sgn_s, sgn_s, sgn_s, sgn_s, ck_s]
    cases hb : hs n with
    | false => simpa using ih
    | true =>
      simp only [Bool.true_and, decide_eq_true_eq, if_true, List.length_append]
      rcases (show n % P = 0 ∨ n % P = 1 ∨ n % P = 2 ∨ n % P = 3 by omega) with e | e | e | e
      · simp [e]; omega
      · simp [e]; omega
      · simp [e]; omega
      · simp [e]; omega
theorem ol_ck {P : Nat} {hs : Nat → Bool} (hP : 1 ≤ P) (hP4 : P ≤ 4) : (ol P hs 64).length = ck hs 16 := by
  have e0 := ol_sg (P := P) (hs := hs) (s := 0)
  have e1 := ol_sg (P := P) (hs := hs) (s := 1)
  have e2 := ol_sg (P := P) (hs := hs) (s := 2)
  have e3 := ol_sg (P := P) (hs := hs) (s := 3)
  have h := sum4 (P := P) (n := 0) (a := 0) (hs := hs) hP hP4 16
  have l0 := congrArg List.length e0
  have l1 := congrArg List.length e1
  have l2 := congrArg List.length e2
  have l3 := congrArg List.length e3
  rw [List.length_append] at l0 l1 l2 l3
  have z : (ol P hs (16 * 0)).length = 0 := rfl
  have h64 : ol P hs (16 * (3 + 1)) = ol P hs 64 := rfl
  rw [h64] at l3
  unfold sg at l0 l1 l2 l3
  simp only [Nat.reduceAdd, Nat.reduceMul] at l0 l1 l2 l3 z
  omega
section Laws
variable {fi : Nat → Int32} {ar : Nat → Nat → Int32} {fj : Nat → Int32} {br : Nat → Nat → Int32}
theorem lw_addRecord (hI : Inv fi ar fj br) (s k v : Int32) : LawI yX1_addRecord cX1_addRecord 5 0 0 yX2_addRecord cX2_addRecord 4 0 0 .int [.int s, .int k, .int v] fi ar fj br := by
  rcases spl s 3 (by omega) with h | ⟨j, hj, rfl⟩
  · exact LawI.same hI rfl (cm_addRecord_bad h) (ct_addRecord_bad h)
  · have hI0 := hI
    obtain ⟨P, B, M, sz, mf, rf, hs, i1, i2, i3, i4, i5, i6, i7, i8', i9, i10, i11, i12⟩ := hI
    obtain ⟨z1, z2, z3⟩ := i5 j (by omega)
    by_cases hf : sz j = 16
    · exact LawI.same hI0 rfl (cm_addRecord_full (by omega) (by rw [z3, hf])) (ct_addRecord_full (c := sz j) (by omega) z2 (by omega) (by omega))
    · refine ⟨_, cm_addRecord_ok (c := sz j) (by omega) z3 (by omega), (ct_addRecord_ok (c := sz j) (by omega) z2 (by omega)).mono ?_⟩
      rintro r fi' ar' ⟨rfl, rfl, rfl⟩ r2 fj' br' ⟨rfl, rfl, rfl⟩
      refine ⟨rfl, P, B, M, fun s => if s = j then sz j + 1 else sz s, mf, rf, hs, i1, i2, i3, i4, fun s hs4 => ?_, fun n hn hlt => ?_, i7, i8', i9, i10, i11, i12⟩
      · by_cases e : s = j
        · subst e
          dsimp only
          rw [if_pos rfl, ua_s, ua_s]
          exact ⟨by omega, rfl, rfl⟩
        · dsimp only
          rw [if_neg e, ua_n e, ua_n e]
          exact i5 s hs4
      · show ua (ua ar 3 (16 * j + sz j) k) 4 (16 * j + sz j) v 3 n = ua (ua br 2 (16 * j + sz j) k) 3 (16 * j + sz j) v 2 n ∧ ua (ua ar 3 (16 * j + sz j) k) 4 (16 * j + sz j) v 4 n = ua (ua br 2 (16 * j + sz j) k) 3 (16 * j + sz j) v 3 n
        rw [ua_o (by decide : (3 : Nat) ≠ 4), ua_o (by decide : (2 : Nat) ≠ 3)]
        by_cases e : n = 16 * j + sz j
        · subst e
          rw [ua_s, ua_s, ua_s, ua_s]
          exact ⟨rfl, rfl⟩
        · rw [ua_n e, ua_n e, ua_n e, ua_n e, ua_o (by decide), ua_o (by decide)]
          refine i6 n hn ?_
          by_cases e2 : n / 16 = j
          · dsimp only at hlt
            rw [if_pos e2] at hlt
            rw [e2]
            omega
          · dsimp only at hlt
            rw [if_neg e2] at hlt
            exact hlt
theorem lw_mapping (hI : Inv fi ar fj br) (m f o : Int32) : LawI yX1_mapping cX1_mapping 4 0 0 yX2_mapping cX2_mapping 4 0 0 .boolean [.int m, .int f, .int o] fi ar fj br := by
  have bad : (m < nI 1 ∨ nI 16 < m) → LawI yX1_mapping cX1_mapping 4 0 0 yX2_mapping cX2_mapping 4 0 0 .boolean [.int m, .int f, .int o] fi ar fj br := fun h => LawI.same hI rfl (cm_mapping_bad h) (ct_mapping_bad h)
  rcases spl m 16 (by omega) with h | ⟨j, hj, rfl⟩
  · refine bad (h.imp (fun h => ?_) id)
    rw [i_lt, i_0] at h
    rw [i_lt, nI_toInt (by omega)]
    omega
  · by_cases h0 : j = 0
    · subst h0
      exact bad (Or.inl (by decide))
    · obtain ⟨P, B, M, sz, mf, rf, hs, i1, i2, i3, i4, i5, i6, i7, i8', i9, i10, i11, i12⟩ := hI
      refine ⟨_, cm_mapping_ok (by omega) hj, (ct_mapping_ok (by omega) hj).mono ?_⟩
      rintro r fi' ar' ⟨rfl, rfl, rfl⟩ r2 fj' br' ⟨rfl, rfl, rfl⟩
      exact ⟨rfl, P, B, j, sz, mf, rf, hs, i1, i2, ⟨by omega, hj, rfl, rfl⟩, ⟨rfl, rfl, i4.2.2.1, i4.2.2.2⟩, i5, i6, i7, i8', i9, i10, i11, i12⟩
theorem lw_bounds (hI : Inv fi ar fj br) (a b : Int32) : ∃ MP : mr_PT, mr_Con K2 yX2_bounds cX2_bounds 3 none 0 0 [.int a, .int b] fj br MP ∧ mr_Con K1 yX1_bounds cX1_bounds 3 none 0 0 [.int a, .int b] fi ar (fun r fi' ar' => ∀ r2 fj' br', MP r2 fj' br' → Inv fi' ar' fj' br') := by
  obtain ⟨P, B, M, sz, mf, rf, hs, i1, i2, i3, i4, i5, i6, i7, i8', i9, i10, i11, i12⟩ := hI
  refine ⟨_, cm_bounds, ct_bounds.mono ?_⟩
  rintro r fi' ar' ⟨rfl, rfl⟩ r2 fj' br' ⟨rfl, rfl⟩
  exact ⟨P, B, M, sz, mf, rf, hs, i1, i2, i3, ⟨i4.1, i4.2.1, rfl, rfl⟩, i5, i6, i7, i8', i9, i10, i11, i12⟩
theorem lw_failures (hI : Inv fi ar fj br) (z i t : Int32) (hz : z = nI 0 ∨ z = nI 1) : LawI yX1_failures cX1_failures 4 0 0 yX2_failures cX2_failures 4 0 0 .boolean [.int z, .int i, .int t] fi ar fj br := by
  have hI0 := hI
  obtain ⟨P, B, M, sz, mf, rf, hs, i1, i2, i3, i4, i5, i6, i7, i8', i9, i10, i11, i12⟩ := hI
  have bad : ((i < 0 ∨ nI 3 < i) ∨ (t < 0 ∨ nI 3 < t)) → LawI yX1_failures cX1_failures 4 0 0 yX2_failures cX2_failures 4 0 0 .boolean [.int z, .int i, .int t] fi ar fj br := fun h => LawI.same hI0 rfl (cm_failures_bad i1.2.2.2 i1.2.1 h) (ct_failures_bad h)
  rcases spl i 3 (by omega) with h | ⟨ii, hii, rfl⟩
  · exact bad (Or.inl h)
  · rcases spl t 3 (by omega) with h | ⟨tt, htt, rfl⟩
    · exact bad (Or.inr h)
    · rcases hz with rfl | rfl
      · refine ⟨_, cm_failures_map hii htt, (ct_failures_map hii htt).mono ?_⟩
        rintro r fi' ar' ⟨rfl, rfl, rfl⟩ r2 fj' br' ⟨rfl, rfl, rfl⟩
        refine ⟨rfl, P, B, M, sz, fun s => if s = ii then tt else mf s, rf, hs, i1, i2, i3, i4, i5, i6, fun s hs4 => ?_, fun s hs4 => ?_, i9, i10, i11, i12⟩
        · by_cases e : s = ii
          · subst e
            dsimp only
            rw [if_pos rfl, ua_s, ua_s]
            exact ⟨htt, rfl, rfl⟩
          · dsimp only
            rw [if_neg e, ua_n e, ua_n e]
            exact i7 s hs4
        · rw [ua_o (by decide), ua_n (by omega)]
          exact i8' s hs4
      · refine ⟨_, cm_failures_red i1.2.2.2 i1.2.1 hii htt, (ct_failures_red i1.2.2.1 i1.2.1 hii htt).mono ?_⟩
        rintro r fi' ar' ⟨rfl, a1, a2⟩ r2 fj' br' ⟨rfl, b1, b2⟩
        by_cases hlt : ii < P
        · obtain ⟨rfl, rfl⟩ := a2 hlt
          obtain ⟨rfl, rfl⟩ := b2 hlt
          refine ⟨rfl, P, B, M, sz, mf, fun s => if s = ii then tt else rf s, hs, i1, i2, i3, i4, i5, i6, fun s hs4 => ?_, fun s hs4 => ?_, i9, i10, i11, i12⟩
          · rw [ua_o (by decide), ua_n (by omega)]
            exact i7 s hs4
          · by_cases e : s = ii
            · subst e
              dsimp only
              rw [if_pos rfl, ua_s, ua_s]
              exact ⟨htt, rfl, rfl⟩
            · dsimp only
              rw [if_neg e, ua_n e, ua_n (by omega)]
              exact i8' s hs4
        · obtain ⟨rfl, rfl⟩ := a1 (by omega)
          obtain ⟨rfl, rfl⟩ := b1 (by omega)
          exact ⟨rfl, hI0⟩
theorem lw_run (hI : Inv fi ar fj br) (x : Int32) : LawI yX1_run cX1_run 4 5 120 yX2_run cX2_run 5 2 60 .int [.int x] fi ar fj br := by
  rcases spl x 4 (by omega) with h | ⟨r, hr, rfl⟩
  · exact LawI.same hI rfl (cm_run_bad h) (ct_run_bad h)
  · obtain ⟨P, B, M, sz, mf, rf, hs, i1, i2, i3, i4, i5, i6, i7, i8', i9, i10, i11, i12⟩ := hI
    obtain ⟨g, hg⟩ : ∃ g : Nat → PL, ∀ a, g a = one M (fi 6) (fi 7) (fi 8) (fi 9) r (ar 3 a) (ar 4 a) := ⟨fun a => one M (fi 6) (fi 7) (fi 8) (fi 9) r (ar 3 a) (ar 4 a), fun _ => rfl⟩
    obtain ⟨g2, hg2⟩ : ∃ g : Nat → PL, ∀ a, g a = one M (fj 5) (fj 6) (fj 7) (fj 8) r (br 2 a) (br 3 a) := ⟨fun a => one M (fj 5) (fj 6) (fj 7) (fj 8) r (br 2 a) (br 3 a), fun _ => rfl⟩
    have hz : ∀ s, s < 4 → sz s ≤ 16 := fun s h4 => (i5 s h4).1
    have hLL : LL g sz 4 = LL g2 sz 4 := by
      rw [← Lp_64 hz, ← Lp_64 hz]
      refine Lp_congr 64 (fun a ha hlt => ?_)
      obtain ⟨e1, e2⟩ := i6 a ha hlt
      rw [hg, hg2, e1, e2, i4.1, i4.2.1, i4.2.2.1, i4.2.2.2]
    obtain ⟨ff, hff⟩ : ∃ ff : Nat → Nat, ff = fun i => if i < 4 then mf i else rf (i - 4) := ⟨_, rfl⟩
    have hsum : ssum (fun i => mf i + rf i) 4 = ssum ff 8 := by
      rw [hff]
      simp [ssum]
      omega
    obtain ⟨gu, hgu⟩ : ∃ gu : Bool, gu = decide (6 < ssum ff 8) := ⟨_, rfl⟩
    obtain ⟨hs', hhs'⟩ : ∃ hs' : Nat → Bool, hs' = fun k => !gu && (fv r k none (LL g2 sz 4)).isSome := ⟨_, rfl⟩
    refine ⟨_, cm_run (M := M) (sz := sz) (ff := ff) (g := g2) (gu := gu) (hs := hs') hr ⟨i3.2.2.2, i3.1, i3.2.1⟩ (fun a _ => hg2 a) (fun s h4 => ⟨(i5 s h4).2.2, (i5 s h4).1⟩) (fun i h8 => ?_) hgu hhs', (ct_run (P := P) (B := B) (M := M) (sz := sz) (mf := mf) (rf := rf) (g := g) (gu := gu) (hs := hs') hr ⟨i1.2.2.1, i1.1, i1.2.1⟩ i2 ⟨i3.2.2.1, i3.1, i3.2.1⟩ (fun a _ => hg a) (fun s h4 => ⟨(i5 s h4).2.1, (i5 s h4).1⟩) (fun i h4 => ⟨(i7 i h4).2.1, (i7 i h4).1⟩) (fun i h4 => ⟨(i8' i h4).2.1, (i8' i h4).1⟩) (by rw [hsum]; exact hgu) (by rw [hLL]; exact hhs')).mono ?_⟩
    · rw [hff]
      by_cases h4 : i < 4
      · simp only [h4, if_true]
        exact ⟨(i7 i h4).2.2, (i7 i h4).1⟩
      · simp only [h4, if_false]
        have h9 := i8' (i - 4) (by omega)
        have e : 4 + (i - 4) = i := by omega
        rw [e] at h9
        exact ⟨h9.2.2, h9.1⟩
    · rintro v fi' ar' ⟨a1, a2, a3, a4, a5, a6, a7⟩ v2 fj' br' ⟨b1, b2, b3, b4, b5, b6⟩
      rw [hLL] at a3 a4
      refine ⟨?_, P, B, M, sz, fun _ => 0, fun _ => 0, hs', ⟨i1.1, i1.2.1, by rw [a1 0 (by decide)]; exact i1.2.2.1, by rw [b1 0 (by decide)]; exact i1.2.2.2⟩, ⟨by rw [a1 1 (by decide)]; exact i2.1, i2.2⟩, ⟨i3.1, i3.2.1, by rw [a1 5 (by decide)]; exact i3.2.2.1, by rw [b1 4 (by decide)]; exact i3.2.2.2⟩, ?_, ?_, ?_, ?_, ?_, fun k hk => (b5 k hk).1, by rw [a3, b3], ?_, a5⟩
      · rw [a7, b6, ol_ck i1.1 i1.2.1]
      · rw [a1 6 (by decide), a1 7 (by decide), a1 8 (by decide), a1 9 (by decide), b1 5 (by decide), b1 6 (by decide), b1 7 (by decide), b1 8 (by decide)]
        exact i4
      · intro s h4
        rw [a2 2 (by decide), b2 1 (by decide)]
        exact i5 s h4
      · intro n hn hlt
        rw [a2 3 (by decide), a2 4 (by decide), b2 2 (by decide), b2 3 (by decide)]
        exact i6 n hn hlt
      · intro i h4
        exact ⟨Nat.zero_le _, (a6 i h4).1, b4 i (by omega)⟩
      · intro i h4
        exact ⟨Nat.zero_le _, (a6 i h4).2, b4 (4 + i) (by omega)⟩
      · refine ⟨a4.1, ?_⟩
        have e : (ol P hs' 64).map (fun k => (k, br' 11 k)) = (ol P hs' 64).map (fun k => (k, gR r (fv r k none (LL g2 sz 4)))) := List.map_congr_left (fun k hk => by rw [(b5 k (ol_mem hk).1).2])
        rw [e]
        exact a4.2
theorem lw_results (hI : Inv fi ar fj br) (x : Int32) : LawI yX1_results cX1_results 2 0 0 yX2_results cX2_results 4 0 0 .int [.int x] fi ar fj br := by
  have hI0 := hI
  obtain ⟨P, B, M, sz, mf, rf, hs, i1, i2, i3, i4, i5, i6, i7, i8', i9, i10, i11, i12⟩ := hI
  rcases pk_ix x (n := P) (by omega) with h | h | ⟨j, hj, rfl⟩
  · exact LawI.same hI0 rfl (cm_results_bad i1.2.2.2 (Or.inl h)) (ct_results_bad i1.2.2.1 (Or.inl h))
  · exact LawI.same hI0 rfl (cm_results_bad i1.2.2.2 (Or.inr h)) (ct_results_bad i1.2.2.1 (Or.inr h))
  · have e : (ol P hs (16 * (j + 1))).length = (ol P hs (16 * j)).length + (sg P hs j).length := by rw [ol_sg, List.length_append]
    refine LawI.same hI0 ?_ (cm_results_ok i1.2.2.2 i1.1 i1.2.1 hj i9) (ct_results_ok i1.2.2.1 i1.2.1 hj (i12 j (by omega)) (i12 (j + 1) (by omega)) (by omega))
    congr 1
    omega
theorem lw_keyAt (hI : Inv fi ar fj br) (x i : Int32) : LawI yX1_keyAt cX1_keyAt 3 1 30 yX2_keyAt cX2_keyAt 5 0 0 .int [.int x, .int i] fi ar fj br := by
  have hI0 := hI
  obtain ⟨P, B, M, sz, mf, rf, hs, i1, i2, i3, i4, i5, i6, i7, i8', i9, i10, i11, i12⟩ := hI
  rcases pk_ix x (n := P) (by omega) with h | h | ⟨j, hj, rfl⟩
  · exact LawI.same hI0 rfl (cm_keyAt_bad i1.2.2.2 (Or.inl h)) (ct_keyAt_bad i1.2.2.1 (Or.inl (Or.inl h)))
  · exact LawI.same hI0 rfl (cm_keyAt_bad i1.2.2.2 (Or.inr h)) (ct_keyAt_bad i1.2.2.1 (Or.inl (Or.inr h)))
  · have e : (ol P hs (16 * (j + 1))).length = (ol P hs (16 * j)).length + (sg P hs j).length := by rw [ol_sg, List.length_append]
    have o2 := ol_16 (P := P) (hs := hs) (16 * (j + 1))
    by_cases h0 : i < 0
    · refine ⟨_, cm_keyAt_ok i1.2.2.2 i1.1 i1.2.1 hj i9, (ct_keyAt_bad i1.2.2.1 (Or.inr h0)).mono ?_⟩
      rintro r fi' ar' ⟨rfl, rfl, rfl⟩ r2 fj' br' ⟨rfl, rfl, hK⟩
      rcases hK with ⟨m, k, k1, k2, -, -⟩ | ⟨-, k2⟩
      · rw [k1] at h0
        exact absurd h0 (n_neg (by omega))
      · exact ⟨k2.symm, hI0⟩
    · obtain ⟨n, hn, rfl⟩ := nI_of h0
      by_cases hlt : n < (sg P hs j).length
      · obtain ⟨k, hk⟩ : ∃ k, (sg P hs j)[n]? = some k := ⟨_, List.getElem?_eq_getElem hlt⟩
        have hseg := i11.seg (s := j) (by omega) n k (br 11 k) (by rw [List.getElem?_map, hk]; rfl)
        refine ⟨_, cm_keyAt_ok (i := nI n) i1.2.2.2 i1.1 i1.2.1 hj i9, (ct_keyAt_ok (k := k) i1.2.2.1 i1.2.1 hj (i12 j (by omega)) (i12 (j + 1) (by omega)) (by omega) (by omega) (by omega) hseg.1).mono ?_⟩
        rintro r fi' ar' ⟨rfl, rfl, rfl⟩ r2 fj' br' ⟨rfl, rfl, hK⟩
        rcases hK with ⟨m, k', k1, k2, k3, k4⟩ | ⟨k1, -⟩
        · have e9 := (nI_eq hn (by omega)).mp k1
          subst e9
          cases hk.symm.trans k3
          exact ⟨k4.symm, hI0⟩
        · exact absurd rfl (k1 n hlt)
      · refine ⟨_, cm_keyAt_ok (i := nI n) i1.2.2.2 i1.1 i1.2.1 hj i9, (ct_keyAt_no i1.2.2.1 i1.2.1 hj (i12 j (by omega)) (i12 (j + 1) (by omega)) (by omega) (by omega) hn (by omega)).mono ?_⟩
        rintro r fi' ar' ⟨rfl, rfl, rfl⟩ r2 fj' br' ⟨rfl, rfl, hK⟩
        rcases hK with ⟨m, k', k1, k2, k3, k4⟩ | ⟨-, k2⟩
        · have e9 := (nI_eq hn (by omega)).mp k1
          subst e9
          exact absurd (List.getElem?_eq_some_iff.mp k3).1 hlt
        · exact ⟨k2.symm, hI0⟩
theorem lw_valueAt (hI : Inv fi ar fj br) (x i : Int32) : LawI yX1_valueAt cX1_valueAt 3 1 30 yX2_valueAt cX2_valueAt 4 1 30 .int [.int x, .int i] fi ar fj br := by
  have hI0 := hI
  obtain ⟨P, B, M, sz, mf, rf, hs, i1, i2, i3, i4, i5, i6, i7, i8', i9, i10, i11, i12⟩ := hI
  rcases pk_ix x (n := P) (by omega) with h | h | ⟨j, hj, rfl⟩
  · exact LawI.same hI0 rfl (cm_valueAt_bad i1.2.2.2 (Or.inl h)) (ct_valueAt_bad i1.2.2.1 (Or.inl (Or.inl h)))
  · exact LawI.same hI0 rfl (cm_valueAt_bad i1.2.2.2 (Or.inr h)) (ct_valueAt_bad i1.2.2.1 (Or.inl (Or.inr h)))
  · have e : (ol P hs (16 * (j + 1))).length = (ol P hs (16 * j)).length + (sg P hs j).length := by rw [ol_sg, List.length_append]
    have o2 := ol_16 (P := P) (hs := hs) (16 * (j + 1))
    by_cases h0 : i < 0
    · refine ⟨_, cm_valueAt_ok i1.2.2.2 i1.1 i1.2.1 hj i9, (ct_valueAt_bad i1.2.2.1 (Or.inr h0)).mono ?_⟩
      rintro r fi' ar' ⟨rfl, rfl, rfl⟩ r2 fj' br' ⟨rfl, rfl, hK⟩
      rcases hK with ⟨m, k, k1, k2, -, -⟩ | ⟨-, k2⟩
      · rw [k1] at h0
        exact absurd h0 (n_neg (by omega))
      · exact ⟨k2.symm, hI0⟩
    · obtain ⟨n, hn, rfl⟩ := nI_of h0
      by_cases hlt : n < (sg P hs j).length
      · obtain ⟨k, hk⟩ : ∃ k, (sg P hs j)[n]? = some k := ⟨_, List.getElem?_eq_getElem hlt⟩
        have hseg := i11.seg (s := j) (by omega) n k (br 11 k) (by rw [List.getElem?_map, hk]; rfl)
        refine ⟨_, cm_valueAt_ok (i := nI n) i1.2.2.2 i1.1 i1.2.1 hj i9, (ct_valueAt_ok i1.2.2.1 i1.2.1 hj (i12 j (by omega)) (i12 (j + 1) (by omega)) (by omega) (by omega) (by omega)).mono ?_⟩
        rintro r fi' ar' ⟨rfl, rfl, rfl⟩ r2 fj' br' ⟨rfl, rfl, hK⟩
        rcases hK with ⟨m, k', k1, k2, k3, k4⟩ | ⟨k1, -⟩
        · have e9 := (nI_eq hn (by omega)).mp k1
          subst e9
          cases hk.symm.trans k3
          exact ⟨hseg.2.trans k4.symm, hI0⟩
        · exact absurd rfl (k1 n hlt)
      · refine ⟨_, cm_valueAt_ok (i := nI n) i1.2.2.2 i1.1 i1.2.1 hj i9, (ct_valueAt_no i1.2.2.1 i1.2.1 hj (i12 j (by omega)) (i12 (j + 1) (by omega)) (by omega) (by omega) hn (by omega)).mono ?_⟩
        rintro r fi' ar' ⟨rfl, rfl, rfl⟩ r2 fj' br' ⟨rfl, rfl, hK⟩
        rcases hK with ⟨m, k', k1, k2, k3, k4⟩ | ⟨-, k2⟩
        · have e9 := (nI_eq hn (by omega)).mp k1
          subst e9
          exact absurd (List.getElem?_eq_some_iff.mp k3).1 hlt
        · exact ⟨k2.symm, hI0⟩
theorem lw_mapped (hI : Inv fi ar fj br) : LawI yX1_mapped cX1_mapped 1 0 0 yX2_mapped cX2_mapped 1 0 0 .int [] fi ar fj br := by
  have hI0 := hI
  obtain ⟨P, B, M, sz, mf, rf, hs, i1, i2, i3, i4, i5, i6, i7, i8', i9, i10, i11, i12⟩ := hI
  exact LawI.same hI0 i10 cm_mapped ct_mapped
theorem lw_feedBack (hI : Inv fi ar fj br) : LawI yX1_feedBack cX1_feedBack 5 0 0 yX2_feedBack cX2_feedBack 3 1 40 .int [] fi ar fj br := by
  obtain ⟨P, B, M, sz, mf, rf, hs, i1, i2, i3, i4, i5, i6, i7, i8', i9, i10, i11, i12⟩ := hI
  refine ⟨_, cm_feedBack i1.2.2.2 i1.1 i1.2.1 i9, (ct_feedBack i11 i12).mono ?_⟩
  rintro v fi' ar' ⟨rfl, a1, a2, rfl⟩ v2 fj' br' ⟨rfl, b1, b2, rfl⟩
  refine ⟨by rw [ol_ck i1.1 i1.2.1], P, B, M, fun s => (sg P hs s).length, mf, rf, hs, i1, i2, i3, i4, fun s h4 => ⟨sg_len, (a2 s h4).1, (b2 s h4).1⟩, fun n hn hlt => ?_, fun i h4 => ?_, fun i h4 => ?_, fun k hk => ?_, i10, ?_, fun q hq => ?_⟩
  · have h4 : n / 16 < 4 := by omega
    obtain ⟨k, hk⟩ : ∃ k, (sg P hs (n / 16))[n % 16]? = some k := ⟨_, List.getElem?_eq_getElem hlt⟩
    have e : 16 * (n / 16) + n % 16 = n := by omega
    have c1 := (a2 (n / 16) h4).2 (n % 16) k (br 11 k) (by rw [List.getElem?_map, hk]; rfl)
    have c2 := (b2 (n / 16) h4).2 (n % 16) k (br 11 k) (by rw [List.getElem?_map, hk]; rfl)
    rw [e] at c1 c2
    exact ⟨c1.1.trans c2.1.symm, c1.2.trans c2.2.symm⟩
  · rw [a1 10 (by decide), b1 9 (by decide)]
    exact i7 i h4
  · rw [a1 11 (by decide), b1 9 (by decide)]
    exact i8' i h4
  · rw [b1 10 (by decide)]
    exact i9 k hk
  · refine ⟨i11.1, ?_⟩
    rw [a1 25 (by decide), a1 26 (by decide), b1 11 (by decide)]
    exact i11.2
  · rw [a1 24 (by decide)]
    exact i12 q hq
theorem lw_emptySplit (hI : Inv fi ar fj br) (x : Int32) : LawI yX1_emptySplit cX1_emptySplit 3 0 0 yX2_emptySplit cX2_emptySplit 3 0 0 .int [.int x] fi ar fj br := by
  rcases spl x 3 (by omega) with h | ⟨j, hj, rfl⟩
  · exact LawI.same hI rfl (cm_emptySplit_bad h) (ct_emptySplit_bad h)
  · obtain ⟨P, B, M, sz, mf, rf, hs, i1, i2, i3, i4, i5, i6, i7, i8', i9, i10, i11, i12⟩ := hI
    obtain ⟨z1, z2, z3⟩ := i5 j (by omega)
    refine ⟨_, cm_emptySplit_ok (by omega), (ct_emptySplit_ok (by omega)).mono ?_⟩
    rintro r fi' ar' ⟨rfl, rfl, rfl⟩ r2 fj' br' ⟨rfl, rfl, rfl⟩
    refine ⟨by rw [z2, z3], P, B, M, fun s => if s = j then 0 else sz s, mf, rf, hs, i1, i2, i3, i4, fun s hs4 => ?_, fun n hn hlt => ?_, i7, i8', i9, i10, i11, i12⟩
    · by_cases e : s = j
      · subst e
        dsimp only
        rw [if_pos rfl, ua_s, ua_s]
        exact ⟨by omega, rfl, rfl⟩
      · dsimp only
        rw [if_neg e, ua_n e, ua_n e]
        exact i5 s hs4
    · by_cases e2 : n / 16 = j
      · dsimp only at hlt
        rw [if_pos e2] at hlt
        omega
      · dsimp only at hlt
        rw [if_neg e2] at hlt
        exact i6 n hn hlt
end Laws
/-- new objects -/
theorem inv_new (a b : Int32) : Inv (fiX1 a b) (fun _ _ => 0) (fiX2 a b) (fun _ _ => 0) := by
  obtain ⟨P, p1, p2, p3⟩ := cl4_ok a
  obtain ⟨B, b1, b2, b3⟩ := cl8_ok b
  refine ⟨P, B, 16, fun _ => 0, fun _ => 0, fun _ => 0, fun _ => false, ⟨p1, p2, p3, p3⟩, ⟨b3, b1, b2⟩, ⟨by omega, by omega, rfl, rfl⟩, ⟨rfl, nI_0.symm, rfl, rfl⟩, fun s _ => ⟨Nat.zero_le _, nI_0.symm, nI_0.symm⟩, fun n _ h => ⟨rfl, rfl⟩, fun i _ => ⟨Nat.zero_le _, nI_0.symm, nI_0.symm⟩, fun i _ => ⟨Nat.zero_le _, nI_0.symm, nI_0.symm⟩, fun k _ => nI_0.symm, nI_0.symm, ⟨?_, ?_⟩, fun q _ => ?_⟩
  · rw [ol_false]; exact nI_0.symm
  · rw [ol_false]; exact hold_nil
  · rw [ol_false]; exact nI_0.symm
end
section
set_option maxRecDepth 100000
set_option linter.unusedVariables false
-- ===== end of PART A; then your names; then what follows =====
/-! THE CLAIM OUT OF ONE WALK OF THE LAW'S BODY. Your part is whole_start (and what it stands on); all else here is the same for every law, but numbers. -/
def R_law : String := "MapReduceRunLaw"
def lw_P (b : Addr) (xs : List Int32) (args : Array Value) (s : State) : Prop := args = #[.ref b] ∧ s.IntsAt b xs ∧ xs.length ≤ 258 ∧ (Jvm.Cond.and given_1 narrow_1).before args s = true
def lw_Q (_ : Array Value) (s : State) (o : Outcome) (t : State) : Prop := o = .returned (some (.int 1)) ∧ Framed s o t [] 600000 7290000
def lw_Z (below : List Frame) (a : Array Value) (s : State) : State → Prop := fun t => ∃ o, t.status = .running ∧ Ended t below o ∧ lw_Q a s o t
/-- the law's own end, with 1 on the stack, nothing written that was there before, its room as the claim has it -/
theorem lw_ret {p : Program} {l : Launch} {e : Env} {s : State} {m : MethodId} {below : List Frame} {meth : Method} {c : Code} {b : Nat} (hx : p.tables.exec = Jvm.exec) (hb : c.code = code) (hr : meth.sig.returnType = ret) (hlocks : meth.locks = false) {pc : Nat} {H : Heap} {ls : Array Slot} (hdg : decode code pc = .ok (.ireturn, 1)) : W p l e room_1 s m #[Value.ref b] below meth c H [] 600000 7290000 (lw_Z below #[Value.ref b] s) (F0 m pc ls [.int 1]) := by
  intro T hT X
  obtain ⟨fs, hret, hrun, hended, hW, hframe⟩ := X.leave (v := some (.int 1)) (hlocks := hlocks) (fun h => by rw [hr] at h; cases h)
  have hmeth' : T.vm.method? m = some meth := X.method'
  refine ⟨T.setFrames fs, ?_, .returned (some (.int 1)), hrun, hended, rfl, ⟨_, rfl⟩, hW, hframe⟩
  jvm_step X.here [X.here.top, hx, hb, hdg, hmeth', hr, ret, narrow_b1]
  (try refine ⟨rfl, ?_⟩); (try refine ⟨rfl, ?_⟩)
  first | (intro acts; rw [hret _ acts rfl rfl rfl]) | rw [hret _ _ rfl rfl rfl]
  exact Steps.refl _
/-- what holds at the law's entry: the machine, the code, the tables' words (any of lw_tbl by 'hts w (by decide +kernel)'), the script of L ints xs at the cell b, what the Statement gives of the start (any of its parts by flat_of_before) -/
def lw_At (p : Program) (s : State) (m : MethodId) (meth : Method) (c : Code) (b L : Nat) (xs : Nat → Int32) : Prop :=
  p.tables.exec = Jvm.exec ∧ c.code = code ∧ meth.sig.returnType = ret ∧ c.maxLocals = 4 ∧ s.vm.findClass R_law = some m.cls ∧ (∀ w ∈ lw_tbl, w.before #[Value.ref b] s = true) ∧ va_X b L xs s s.heap ∧ b < s.heap.size ∧ meth.locks = false ∧ (Jvm.Cond.and given_1 narrow_1).before #[Value.ref b] s = true
end
section
set_option maxRecDepth 100000
set_option linter.unusedVariables false
/-! THE LAW'S GATE. Two objects, at h1 (the component) and h2 (the reference); the law's locals are the script, h1, h2 and the place i. -/
abbrev lx_T : Type := Nat → Nat → List Value → (Nat → Int32) → (Nat → Nat → Int32) → (Nat → Int32) → (Nat → Nat → Int32) → Prop
abbrev lx_A (s : State) : Nat → Prop := fun q => s.heap.size ≤ q
def lx_G (h1 h2 : Nat) (ad1 ad2 : Nat → Nat) (cA1 cA2 : Nat → ClassId) (p : Program) (l : Launch) (e : Env) (s : State) (m : MethodId) (b : Nat) (below : List Frame) (meth : Method) (c : Code) (D : va_G) : lx_T := fun pc i st fi ar fj br => ∀ (ls : Array Slot) (H : Heap) (locs : List Loc), lv_has ls 4 [(0, .ref b), (1, .ref h1), (2, .ref h2), (3, .int (nI i))] → va_P D vwCl (mr_ws K1 h1 ad1 cA1 fi ar) H → va_P D vwCl (mr_ws K2 h2 ad2 cA2 fj br) H → va_S (lx_A s) s.heap H locs → W p l e room_1 s m #[Value.ref b] below meth c H locs 23 758 (lw_Z below #[Value.ref b] s) (F0 m pc ls st)
def lx_ap (h1 h2 : Nat) (ad1 ad2 : Nat → Nat) (cA1 cA2 : Nat → ClassId) : Prop := ∀ (fi : Nat → Int32) (ar : Nat → Nat → Int32) (fj : Nat → Int32) (br : Nat → Nat → Int32) (i j : Nat) (x y : Nat × va_E), (mr_ws K1 h1 ad1 cA1 fi ar)[i]? = some x → (mr_ws K2 h2 ad2 cA2 fj br)[j]? = some y → x.1 ≠ y.1
def lx_Cl (h1 h2 L : Nat) (xs : Nat → Int32) (G : lx_T) : Prop := ∃ (p : Program) (l : Launch) (e : Env) (s : State) (m : MethodId) (b : Nat) (below : List Frame) (meth : Method) (c : Code) (D : va_G) (ad1 ad2 : Nat → Nat) (cA1 cA2 : Nat → ClassId), lw_At p s m meth c b L xs ∧ L ≤ 258 ∧ va_K D vwCl (mr_tys K1 cA1) s ∧ va_K D vwCl (mr_tys K2 cA2) s ∧ (∀ fi ar, va_D (lx_A s) (mr_ws K1 h1 ad1 cA1 fi ar)) ∧ (∀ fi ar, va_D (lx_A s) (mr_ws K2 h2 ad2 cA2 fi ar)) ∧ lx_ap h1 h2 ad1 ad2 cA1 cA2 ∧ G = lx_G h1 h2 ad1 ad2 cA1 cA2 p l e s m b below meth c D
section LawRows
variable {h1 h2 L pc i : Nat} {xs : Nat → Int32} {G : lx_T} {st rest : List Value} {fi fj : Nat → Int32} {ar br : Nat → Nat → Int32} {x y r : Int32}
theorem lx_aload1 (hG : lx_Cl h1 h2 L xs G) (hd : decode code pc = .ok (.aload_n 1, 1)) (kk : G (pc + 1) i (.ref h1 :: st) fi ar fj br) : G pc i st fi ar fj br := by
  obtain ⟨p, l, e, s, m, b, below, meth, c, D, ad1, ad2, cA1, cA2, C0, hL, hK1, hK2, hD1, hD2, hap, rfl⟩ := hG
  obtain ⟨hx, hb, hr, hml, hown, hts0, hX, hbl, hlocks, hgv⟩ := C0
  have hts : ∀ w ∈ lw_all, w.before #[Value.ref b] s = true := fun w h => hts0 w (lw_all_tbl h)
  have hbA : ¬ (lx_A s) b := Nat.not_le.mpr hbl
  intro ls H locs hl hP1 hP2 hS
  exact lv_aload_n hx hb hd rfl (lv_at hl 1 rfl) (kk ls H locs hl hP1 hP2 hS)
theorem lx_aload2 (hG : lx_Cl h1 h2 L xs G) (hd : decode code pc = .ok (.aload_n 2, 1)) (kk : G (pc + 1) i (.ref h2 :: st) fi ar fj br) : G pc i st fi ar fj br := by
  obtain ⟨p, l, e, s, m, b, below, meth, c, D, ad1, ad2, cA1, cA2, C0, hL, hK1, hK2, hD1, hD2, hap, rfl⟩ := hG
  obtain ⟨hx, hb, hr, hml, hown, hts0, hX, hbl, hlocks, hgv⟩ := C0
  have hts : ∀ w ∈ lw_all, w.before #[Value.ref b] s = true := fun w h => hts0 w (lw_all_tbl h)
  have hbA : ¬ (lx_A s) b := Nat.not_le.mpr hbl
  intro ls H locs hl hP1 hP2 hS
  exact lv_aload_n hx hb hd rfl (lv_at hl 2 rfl) (kk ls H locs hl hP1 hP2 hS)
theorem lx_goto (hG : lx_Cl h1 h2 L xs G) (t : Nat) {off : Int} (hd : decode code pc = .ok (.goto off, 3)) (ht : (pc : Int) + off = (t : Int)) (kk : G t i st fi ar fj br) : G pc i st fi ar fj br := by
  obtain ⟨p, l, e, s, m, b, below, meth, c, D, ad1, ad2, cA1, cA2, C0, hL, hK1, hK2, hD1, hD2, hap, rfl⟩ := hG
  obtain ⟨hx, hb, hr, hml, hown, hts0, hX, hbl, hlocks, hgv⟩ := C0
  have hts : ∀ w ∈ lw_all, w.before #[Value.ref b] s = true := fun w h => hts0 w (lw_all_tbl h)
  have hbA : ¬ (lx_A s) b := Nat.not_le.mpr hbl
  intro ls H locs hl hP1 hP2 hS
  exact lv_goto hx hb hd ht (kk ls H locs hl hP1 hP2 hS)
theorem lx_arg (hG : lx_Cl h1 h2 L xs G) (k : Nat) (hk : i + k < L) {z : Int} (d0 : decode code pc = .ok (.aload_n 0, 1)) (d1 : decode code (pc + 1) = .ok (.iload_n 3, 1)) (d2 : decode code (pc + 2) = .ok (.iconst z, 1)) (hz : Int32.ofInt z = nI k) (d3 : decode code (pc + 3) = .ok (.iadd, 1)) (d4 : decode code (pc + 4) = .ok (.iaload, 1)) (kk : G (pc + 5) i (.int (xs (i + k)) :: st) fi ar fj br) : G pc i st fi ar fj br := by
  obtain ⟨p, l, e, s, m, b, below, meth, c, D, ad1, ad2, cA1, cA2, C0, hL, hK1, hK2, hD1, hD2, hap, rfl⟩ := hG
  obtain ⟨hx, hb, hr, hml, hown, hts0, hX, hbl, hlocks, hgv⟩ := C0
  have hts : ∀ w ∈ lw_all, w.before #[Value.ref b] s = true := fun w h => hts0 w (lw_all_tbl h)
  have hbA : ¬ (lx_A s) b := Nat.not_le.mpr hbl
  intro ls H locs hl hP1 hP2 hS
  refine lv_aload_n hx hb d0 rfl (lv_at hl 0 rfl) ?_
  refine lv_iload_n hx hb d1 rfl (lv_at hl 3 rfl) ?_
  refine lv_iconst hx hb d2 hz ?_
  refine lv_iadd hx hb d3 ?_
  rw [nI_add]
  refine va_sld hx hb hX hbl hbA hS (vp_in_nI hk (by omega)) d4 ?_
  rw [nI_clamp (by omega)]
  exact kk ls H locs hl hP1 hP2 hS
theorem lx_ne (hG : lx_Cl h1 h2 L xs G) (d0 : decode code pc = .ok (.ifCond .eq 7, 3)) (d1 : decode code (pc + 3) = .ok (.iconst 1, 1)) (d2 : decode code (pc + 4) = .ok (.goto 4, 3)) (d3 : decode code (pc + 7) = .ok (.iconst 0, 1)) (kk : G (pc + 8) i (.int (if x = 0 then nI 0 else nI 1) :: st) fi ar fj br) : G pc i (.int x :: st) fi ar fj br := by
  obtain ⟨p, l, e, s, m, b, below, meth, c, D, ad1, ad2, cA1, cA2, C0, hL, hK1, hK2, hD1, hD2, hap, rfl⟩ := hG
  obtain ⟨hx, hb, hr, hml, hown, hts0, hX, hbl, hlocks, hgv⟩ := C0
  have hts : ∀ w ∈ lw_all, w.before #[Value.ref b] s = true := fun w h => hts0 w (lw_all_tbl h)
  have hbA : ¬ (lx_A s) b := Nat.not_le.mpr hbl
  intro ls H locs hl hP1 hP2 hS
  have kk := kk ls H locs hl hP1 hP2 hS
  refine lv_if_eq (tgt := pc + 7) hx hb d0 (by omega) (fun q => ?_) (fun q => ?_)
  · rw [if_pos q] at kk
    exact lv_iconst hx hb d3 (v := nI 0) (by decide) kk
  · rw [if_neg q] at kk
    exact lv_iconst hx hb d1 (v := nI 1) (by decide) (lv_goto (tgt := pc + 8) hx hb d2 (by omega) kk)
theorem lx_cmp (hG : lx_Cl h1 h2 L xs G) {y : Int32} {off : Int} (t : Nat) (hd : decode code pc = .ok (.if_icmp .eq off, 3)) (ht : (pc : Int) + off = (t : Int)) (hxy : x = y) (kk : G t i st fi ar fj br) : G pc i (.int y :: .int x :: st) fi ar fj br := by
  obtain ⟨p, l, e, s, m, b, below, meth, c, D, ad1, ad2, cA1, cA2, C0, hL, hK1, hK2, hD1, hD2, hap, rfl⟩ := hG
  obtain ⟨hx, hb, hr, hml, hown, hts0, hX, hbl, hlocks, hgv⟩ := C0
  have hts : ∀ w ∈ lw_all, w.before #[Value.ref b] s = true := fun w h => hts0 w (lw_all_tbl h)
  have hbA : ¬ (lx_A s) b := Nat.not_le.mpr hbl
  intro ls H locs hl hP1 hP2 hS
  exact lv_icmp_eq hx hb hd ht (fun _ => kk ls H locs hl hP1 hP2 hS) (fun q => absurd hxy q)
theorem lx_next (hG : lx_Cl h1 h2 L xs G)  (kk : G 38 (i + 4) [] fi ar fj br) : G 449 i [] fi ar fj br := by
  obtain ⟨p, l, e, s, m, b, below, meth, c, D, ad1, ad2, cA1, cA2, C0, hL, hK1, hK2, hD1, hD2, hap, rfl⟩ := hG
  obtain ⟨hx, hb, hr, hml, hown, hts0, hX, hbl, hlocks, hgv⟩ := C0
  have hts : ∀ w ∈ lw_all, w.before #[Value.ref b] s = true := fun w h => hts0 w (lw_all_tbl h)
  have hbA : ¬ (lx_A s) b := Nat.not_le.mpr hbl
  intro ls H locs hl hP1 hP2 hS
  refine lv_iinc (v := nI (i + 4)) (lv' := [(3, .int (nI (i + 4))), (0, .ref b), (1, .ref h1), (2, .ref h2)]) hx hb dL_law_449 hl (k := 3) rfl (nI_add i 4) (by decide) rfl (fun ls hl => ?_)
  refine lv_goto (tgt := 38) hx hb dL_law_452 (by decide) ?_
  exact kk ls H locs (lv_sub hl [1, 2, 3, 0] rfl) hP1 hP2 hS
theorem lx_end (hG : lx_Cl h1 h2 L xs G)   : G 455 i [] fi ar fj br := by
  obtain ⟨p, l, e, s, m, b, below, meth, c, D, ad1, ad2, cA1, cA2, C0, hL, hK1, hK2, hD1, hD2, hap, rfl⟩ := hG
  obtain ⟨hx, hb, hr, hml, hown, hts0, hX, hbl, hlocks, hgv⟩ := C0
  have hts : ∀ w ∈ lw_all, w.before #[Value.ref b] s = true := fun w h => hts0 w (lw_all_tbl h)
  have hbA : ¬ (lx_A s) b := Nat.not_le.mpr hbl
  intro ls H locs hl hP1 hP2 hS
  refine lv_iconst (v := 1) hx hb dL_law_455 (by decide) ?_
  refine va_forget (fun q hq => hS.2.2 q hq) ?_
  refine W.widen (k := 600000) (n := 7290000) (Nat.le_of_ble_eq_true rfl) (Nat.le_of_ble_eq_true rfl) ?_
  exact lw_ret hx hb hr hlocks dL_law_456
theorem lx_head (hG : lx_Cl h1 h2 L xs G) (hi : i ≤ 300) (kr : G 455 i [] fi ar fj br) (kk : i + 4 ≤ L → G 46 i [] fi ar fj br) : G 38 i [] fi ar fj br := by
  obtain ⟨p, l, e, s, m, b, below, meth, c, D, ad1, ad2, cA1, cA2, C0, hL, hK1, hK2, hD1, hD2, hap, rfl⟩ := hG
  obtain ⟨hx, hb, hr, hml, hown, hts0, hX, hbl, hlocks, hgv⟩ := C0
  have hts : ∀ w ∈ lw_all, w.before #[Value.ref b] s = true := fun w h => hts0 w (lw_all_tbl h)
  have hbA : ¬ (lx_A s) b := Nat.not_le.mpr hbl
  intro ls H locs hl hP1 hP2 hS
  refine lv_iload_n hx hb dL_law_38 rfl (lv_at hl 3 rfl) ?_
  refine lv_aload_n hx hb dL_law_39 rfl (lv_at hl 0 rfl) ?_
  refine va_slen hx hb hX hbl hbA hS dL_law_40 ?_
  refine lv_iconst (v := nI 4) hx hb dL_law_41 (by decide) ?_
  refine lv_isub hx hb dL_law_42 ?_
  refine lv_icmp_gt (tgt := 455) hx hb dL_law_43 (by decide) (fun q => ?_) (fun q => ?_)
  · exact kr ls H locs hl hP1 hP2 hS
  · refine kk ?_ ls H locs hl hP1 hP2 hS
    have q : ¬ (nI L - nI 4) < nI i := q
    rw [i_lt, pk_sub_toInt (by omega) (by omega), nI_toInt (by omega)] at q
    omega
theorem lx_switch (hG : lx_Cl h1 h2 L xs G) (hlt : i + 4 ≤ L) (k0 : G 112 i [] fi ar fj br) (k1 : G 155 i [] fi ar fj br) (k2 : G 198 i [] fi ar fj br) (k3 : G 229 i [] fi ar fj br) (k4 : G 288 i [] fi ar fj br) (k5 : G 311 i [] fi ar fj br) (k6 : G 334 i [] fi ar fj br) (k7 : G 367 i [] fi ar fj br) (k8 : G 400 i [] fi ar fj br) (k9 : G 413 i [] fi ar fj br) (k10 : G 426 i [] fi ar fj br) (kd : G 449 i [] fi ar fj br) : G 46 i [] fi ar fj br := by
  obtain ⟨p, l, e, s, m, b, below, meth, c, D, ad1, ad2, cA1, cA2, C0, hL, hK1, hK2, hD1, hD2, hap, rfl⟩ := hG
  obtain ⟨hx, hb, hr, hml, hown, hts0, hX, hbl, hlocks, hgv⟩ := C0
  have hts : ∀ w ∈ lw_all, w.before #[Value.ref b] s = true := fun w h => hts0 w (lw_all_tbl h)
  have hbA : ¬ (lx_A s) b := Nat.not_le.mpr hbl
  intro ls H locs hl hP1 hP2 hS
  refine lv_aload_n hx hb dL_law_46 rfl (lv_at hl 0 rfl) ?_
  refine lv_iload_n hx hb dL_law_47 rfl (lv_at hl 3 rfl) ?_
  refine va_sld hx hb hX hbl hbA hS (vp_in_nI (by omega) (by omega)) dL_law_48 ?_
  refine lv_bipush (v := nI 15) hx hb dL_law_49 (by decide) ?_
  refine lv_iand hx hb dL_law_51 ?_
  obtain ⟨j, hj, ej⟩ := pk_andE (xs (nI i).toNatClampNeg) (m := nI 15) 4 (by decide)
  rw [ej]
  rcases (show j = 0 ∨ j = 1 ∨ j = 2 ∨ j = 3 ∨ j = 4 ∨ j = 5 ∨ j = 6 ∨ j = 7 ∨ j = 8 ∨ j = 9 ∨ j = 10 ∨ 11 ≤ j by omega) with rfl | rfl | rfl | rfl | rfl | rfl | rfl | rfl | rfl | rfl | rfl | h11
  · exact lv_tableIn (tgt := 112) (off := 60) hx hb dL_law_52 (by decide +kernel) (by decide +kernel) (by decide +kernel) (by decide) (k0 ls H locs hl hP1 hP2 hS)
  · exact lv_tableIn (tgt := 155) (off := 103) hx hb dL_law_52 (by decide +kernel) (by decide +kernel) (by decide +kernel) (by decide) (k1 ls H locs hl hP1 hP2 hS)
  · exact lv_tableIn (tgt := 198) (off := 146) hx hb dL_law_52 (by decide +kernel) (by decide +kernel) (by decide +kernel) (by decide) (k2 ls H locs hl hP1 hP2 hS)
  · exact lv_tableIn (tgt := 229) (off := 177) hx hb dL_law_52 (by decide +kernel) (by decide +kernel) (by decide +kernel) (by decide) (k3 ls H locs hl hP1 hP2 hS)
  · exact lv_tableIn (tgt := 288) (off := 236) hx hb dL_law_52 (by decide +kernel) (by decide +kernel) (by decide +kernel) (by decide) (k4 ls H locs hl hP1 hP2 hS)
  · exact lv_tableIn (tgt := 311) (off := 259) hx hb dL_law_52 (by decide +kernel) (by decide +kernel) (by decide +kernel) (by decide) (k5 ls H locs hl hP1 hP2 hS)
  · exact lv_tableIn (tgt := 334) (off := 282) hx hb dL_law_52 (by decide +kernel) (by decide +kernel) (by decide +kernel) (by decide) (k6 ls H locs hl hP1 hP2 hS)
  · exact lv_tableIn (tgt := 367) (off := 315) hx hb dL_law_52 (by decide +kernel) (by decide +kernel) (by decide +kernel) (by decide) (k7 ls H locs hl hP1 hP2 hS)
  · exact lv_tableIn (tgt := 400) (off := 348) hx hb dL_law_52 (by decide +kernel) (by decide +kernel) (by decide +kernel) (by decide) (k8 ls H locs hl hP1 hP2 hS)
  · exact lv_tableIn (tgt := 413) (off := 361) hx hb dL_law_52 (by decide +kernel) (by decide +kernel) (by decide +kernel) (by decide) (k9 ls H locs hl hP1 hP2 hS)
  · exact lv_tableIn (tgt := 426) (off := 374) hx hb dL_law_52 (by decide +kernel) (by decide +kernel) (by decide +kernel) (by decide) (k10 ls H locs hl hP1 hP2 hS)
  · exact lv_tableOut (tgt := 449) hx hb dL_law_52 (Or.inr (by rw [nI_toInt (by omega)]; omega)) (by decide) (kd ls H locs hl hP1 hP2 hS)
end LawRows
section LawCalls
variable {h1 h2 L pc i : Nat} {xs : Nat → Int32} {G : lx_T} {st rest : List Value} {fi fj : Nat → Int32} {ar br : Nat → Nat → Int32} {y : MethodName} {cy : ByteArray} {nLy fry loy idx : Nat} {ty : FieldType} {avs : List Value} {Post' : mr_PT}
theorem lx_calli1 (hG : lx_Cl h1 h2 L xs G) (hC : mr_Con K1 y cy nLy (some ty) fry loy avs fi ar Post') (hw : GoodIn lw_all (wsV R_law idx K1.1 y (ws_ y cy nLy (some ty)))) (hcl : mr_callok K1 y avs) (hroom : fry + 1 ≤ 8 ∧ 8 + (nLy + 11) + loy ≤ 286) (hst : st = avs.reverse ++ .ref h1 :: rest) (hrest : (rest.map fun v => v.category).sum ≤ 8) (hd : decode code pc = .ok (.invokevirtual idx, 3)) (kk : ∀ (r : Int32) (f' : Nat → Int32) (a' : Nat → Nat → Int32), Post' r f' a' → G (pc + 3) i (.int r :: rest) f' a' fj br) : G pc i st fi ar fj br := by
  obtain ⟨p, l, e, s, m, b, below, meth, c, D, ad1, ad2, cA1, cA2, C0, hL, hK1, hK2, hD1, hD2, hap, rfl⟩ := hG
  obtain ⟨hx, hb, hr, hml, hown, hts0, hX, hbl, hlocks, hgv⟩ := C0
  have hts : ∀ w ∈ lw_all, w.before #[Value.ref b] s = true := fun w h => hts0 w (lw_all_tbl h)
  have hbA : ¬ (lx_A s) b := Nat.not_le.mpr hbl
  intro ls H locs hl hP1 hP2 hS
  subst hst
  have hF : ∀ q, va_A (mr_ws K1 h1 ad1 cA1 fi ar) H.size q → (lx_A s) q := by
    intro q hq
    rcases hq with ⟨k, e', hq⟩ | hq
    · exact (hD1 fi ar).2 k _ hq
    · exact Nat.le_trans hS.1 hq
  refine va_calli (va_runV (As := avs) (rest := rest) ⟨hx, hb, hml, hown, hts⟩ (hC l D h1 ad1 cA1 H.size) (cwV avs.length hts hw rfl rfl rfl hcl hroom) ⟨fun a U g mk q => by obtain ⟨q0, q1, qP, qK, qD⟩ := q; exact ⟨q0, q1, qP, va_K.moved (u := U) (U := U.calling g mk a) (Vm.Alike.refl U.vm) qK, qD⟩, va_recv hK1 hP1 (ci := K1.2.2.2.1) (q0 := 0) ok1.2.1 mr_ws_0, fun U hU hW => ⟨rfl, by rw [hU], by rw [hU]; exact hP1, va_K.moved hW.alike hK1, (hD1 fi ar).weaken (fun _ _ _ _ => trivial)⟩⟩ rfl rfl hl.1 rfl (lv_room hrest) hd ⟨Nat.le_of_ble_eq_true rfl, Nat.le_of_ble_eq_true rfl⟩) hS (fun q _ hq => hF q hq) hF (fun r u t H1 locs1 ht hvm hpost hB hz1 hk1 hS1 => ?_)
  obtain ⟨f', a'⟩ := u
  obtain ⟨hP3, -, -⟩ := hB
  rw [ht] at hP3
  have hPo := hP2.kept (H1 := H1) (fun k q hk => hk1 q.1 (hP2 k q hk).lt (fun hq => by
    rcases hq with ⟨k', e', h'⟩ | hge
    · exact hap fi ar fj br k' k _ _ h' hk rfl
    · exact absurd (hP2 k q hk).lt (Nat.not_lt.mpr hge)))
  exact kk r f' a' hpost ls H1 locs1 hl hP3 hPo hS1
theorem lx_callv1 (hG : lx_Cl h1 h2 L xs G) (hC : mr_Con K1 y cy nLy none fry loy avs fi ar Post') (hw : GoodIn lw_all (wsV R_law idx K1.1 y (ws_ y cy nLy none))) (hcl : mr_callok K1 y avs) (hroom : fry + 1 ≤ 8 ∧ 8 + (nLy + 11) + loy ≤ 286) (hst : st = avs.reverse ++ .ref h1 :: rest) (hrest : (rest.map fun v => v.category).sum ≤ 8) (hd : decode code pc = .ok (.invokevirtual idx, 3)) (kk : ∀ (f' : Nat → Int32) (a' : Nat → Nat → Int32), Post' 0 f' a' → G (pc + 3) i (rest) f' a' fj br) : G pc i st fi ar fj br := by
  obtain ⟨p, l, e, s, m, b, below, meth, c, D, ad1, ad2, cA1, cA2, C0, hL, hK1, hK2, hD1, hD2, hap, rfl⟩ := hG
  obtain ⟨hx, hb, hr, hml, hown, hts0, hX, hbl, hlocks, hgv⟩ := C0
  have hts : ∀ w ∈ lw_all, w.before #[Value.ref b] s = true := fun w h => hts0 w (lw_all_tbl h)
  have hbA : ¬ (lx_A s) b := Nat.not_le.mpr hbl
  intro ls H locs hl hP1 hP2 hS
  subst hst
  have hF : ∀ q, va_A (mr_ws K1 h1 ad1 cA1 fi ar) H.size q → (lx_A s) q := by
    intro q hq
    rcases hq with ⟨k, e', hq⟩ | hq
    · exact (hD1 fi ar).2 k _ hq
    · exact Nat.le_trans hS.1 hq
  refine va_callv (va_runV (As := avs) (rest := rest) ⟨hx, hb, hml, hown, hts⟩ (hC l D h1 ad1 cA1 H.size) (cwV avs.length hts hw rfl rfl rfl hcl hroom) ⟨fun a U g mk q => by obtain ⟨q0, q1, qP, qK, qD⟩ := q; exact ⟨q0, q1, qP, va_K.moved (u := U) (U := U.calling g mk a) (Vm.Alike.refl U.vm) qK, qD⟩, va_recv hK1 hP1 (ci := K1.2.2.2.1) (q0 := 0) ok1.2.1 mr_ws_0, fun U hU hW => ⟨rfl, by rw [hU], by rw [hU]; exact hP1, va_K.moved hW.alike hK1, (hD1 fi ar).weaken (fun _ _ _ _ => trivial)⟩⟩ rfl rfl hl.1 rfl (lv_room hrest) hd ⟨Nat.le_of_ble_eq_true rfl, Nat.le_of_ble_eq_true rfl⟩) hS (fun q _ hq => hF q hq) hF (fun u t H1 locs1 ht hvm hpost hB hz1 hk1 hS1 => ?_)
  obtain ⟨f', a'⟩ := u
  obtain ⟨hP3, -, -⟩ := hB
  rw [ht] at hP3
  have hPo := hP2.kept (H1 := H1) (fun k q hk => hk1 q.1 (hP2 k q hk).lt (fun hq => by
    rcases hq with ⟨k', e', h'⟩ | hge
    · exact hap fi ar fj br k' k _ _ h' hk rfl
    · exact absurd (hP2 k q hk).lt (Nat.not_lt.mpr hge)))
  exact kk f' a' hpost ls H1 locs1 hl hP3 hPo hS1
theorem lx_calli2 (hG : lx_Cl h1 h2 L xs G) (hC : mr_Con K2 y cy nLy (some ty) fry loy avs fj br Post') (hw : GoodIn lw_all (wsV R_law idx K2.1 y (ws_ y cy nLy (some ty)))) (hcl : mr_callok K2 y avs) (hroom : fry + 1 ≤ 8 ∧ 8 + (nLy + 11) + loy ≤ 286) (hst : st = avs.reverse ++ .ref h2 :: rest) (hrest : (rest.map fun v => v.category).sum ≤ 8) (hd : decode code pc = .ok (.invokevirtual idx, 3)) (kk : ∀ (r : Int32) (f' : Nat → Int32) (a' : Nat → Nat → Int32), Post' r f' a' → G (pc + 3) i (.int r :: rest) fi ar f' a') : G pc i st fi ar fj br := by
  obtain ⟨p, l, e, s, m, b, below, meth, c, D, ad1, ad2, cA1, cA2, C0, hL, hK1, hK2, hD1, hD2, hap, rfl⟩ := hG
  obtain ⟨hx, hb, hr, hml, hown, hts0, hX, hbl, hlocks, hgv⟩ := C0
  have hts : ∀ w ∈ lw_all, w.before #[Value.ref b] s = true := fun w h => hts0 w (lw_all_tbl h)
  have hbA : ¬ (lx_A s) b := Nat.not_le.mpr hbl
  intro ls H locs hl hP1 hP2 hS
  subst hst
  have hF : ∀ q, va_A (mr_ws K2 h2 ad2 cA2 fj br) H.size q → (lx_A s) q := by
    intro q hq
    rcases hq with ⟨k, e', hq⟩ | hq
    · exact (hD2 fj br).2 k _ hq
    · exact Nat.le_trans hS.1 hq
  refine va_calli (va_runV (As := avs) (rest := rest) ⟨hx, hb, hml, hown, hts⟩ (hC l D h2 ad2 cA2 H.size) (cwV avs.length hts hw rfl rfl rfl hcl hroom) ⟨fun a U g mk q => by obtain ⟨q0, q1, qP, qK, qD⟩ := q; exact ⟨q0, q1, qP, va_K.moved (u := U) (U := U.calling g mk a) (Vm.Alike.refl U.vm) qK, qD⟩, va_recv hK2 hP2 (ci := K2.2.2.2.1) (q0 := 0) ok2.2.1 mr_ws_0, fun U hU hW => ⟨rfl, by rw [hU], by rw [hU]; exact hP2, va_K.moved hW.alike hK2, (hD2 fj br).weaken (fun _ _ _ _ => trivial)⟩⟩ rfl rfl hl.1 rfl (lv_room hrest) hd ⟨Nat.le_of_ble_eq_true rfl, Nat.le_of_ble_eq_true rfl⟩) hS (fun q _ hq => hF q hq) hF (fun r u t H1 locs1 ht hvm hpost hB hz1 hk1 hS1 => ?_)
  obtain ⟨f', a'⟩ := u
  obtain ⟨hP3, -, -⟩ := hB
  rw [ht] at hP3
  have hPo := hP1.kept (H1 := H1) (fun k q hk => hk1 q.1 (hP1 k q hk).lt (fun hq => by
    rcases hq with ⟨k', e', h'⟩ | hge
    · exact hap fi ar fj br k k' _ _ hk h' rfl
    · exact absurd (hP1 k q hk).lt (Nat.not_lt.mpr hge)))
  exact kk r f' a' hpost ls H1 locs1 hl hPo hP3 hS1
theorem lx_callv2 (hG : lx_Cl h1 h2 L xs G) (hC : mr_Con K2 y cy nLy none fry loy avs fj br Post') (hw : GoodIn lw_all (wsV R_law idx K2.1 y (ws_ y cy nLy none))) (hcl : mr_callok K2 y avs) (hroom : fry + 1 ≤ 8 ∧ 8 + (nLy + 11) + loy ≤ 286) (hst : st = avs.reverse ++ .ref h2 :: rest) (hrest : (rest.map fun v => v.category).sum ≤ 8) (hd : decode code pc = .ok (.invokevirtual idx, 3)) (kk : ∀ (f' : Nat → Int32) (a' : Nat → Nat → Int32), Post' 0 f' a' → G (pc + 3) i (rest) fi ar f' a') : G pc i st fi ar fj br := by
  obtain ⟨p, l, e, s, m, b, below, meth, c, D, ad1, ad2, cA1, cA2, C0, hL, hK1, hK2, hD1, hD2, hap, rfl⟩ := hG
  obtain ⟨hx, hb, hr, hml, hown, hts0, hX, hbl, hlocks, hgv⟩ := C0
  have hts : ∀ w ∈ lw_all, w.before #[Value.ref b] s = true := fun w h => hts0 w (lw_all_tbl h)
  have hbA : ¬ (lx_A s) b := Nat.not_le.mpr hbl
  intro ls H locs hl hP1 hP2 hS
  subst hst
  have hF : ∀ q, va_A (mr_ws K2 h2 ad2 cA2 fj br) H.size q → (lx_A s) q := by
    intro q hq
    rcases hq with ⟨k, e', hq⟩ | hq
    · exact (hD2 fj br).2 k _ hq
    · exact Nat.le_trans hS.1 hq
  refine va_callv (va_runV (As := avs) (rest := rest) ⟨hx, hb, hml, hown, hts⟩ (hC l D h2 ad2 cA2 H.size) (cwV avs.length hts hw rfl rfl rfl hcl hroom) ⟨fun a U g mk q => by obtain ⟨q0, q1, qP, qK, qD⟩ := q; exact ⟨q0, q1, qP, va_K.moved (u := U) (U := U.calling g mk a) (Vm.Alike.refl U.vm) qK, qD⟩, va_recv hK2 hP2 (ci := K2.2.2.2.1) (q0 := 0) ok2.2.1 mr_ws_0, fun U hU hW => ⟨rfl, by rw [hU], by rw [hU]; exact hP2, va_K.moved hW.alike hK2, (hD2 fj br).weaken (fun _ _ _ _ => trivial)⟩⟩ rfl rfl hl.1 rfl (lv_room hrest) hd ⟨Nat.le_of_ble_eq_true rfl, Nat.le_of_ble_eq_true rfl⟩) hS (fun q _ hq => hF q hq) hF (fun u t H1 locs1 ht hvm hpost hB hz1 hk1 hS1 => ?_)
  obtain ⟨f', a'⟩ := u
  obtain ⟨hP3, -, -⟩ := hB
  rw [ht] at hP3
  have hPo := hP1.kept (H1 := H1) (fun k q hk => hk1 q.1 (hP1 k q hk).lt (fun hq => by
    rcases hq with ⟨k', e', h'⟩ | hge
    · exact hap fi ar fj br k k' _ _ hk h' rfl
    · exact absurd (hP1 k q hk).lt (Nat.not_lt.mpr hge)))
  exact kk f' a' hpost ls H1 locs1 hl hPo hP3 hS1
end LawCalls
end
section
set_option maxRecDepth 100000
set_option linter.unusedVariables false
/-! each call of the law: the same answer, the invariant again -/
theorem lx_zb (x : Int32) : (if x = 0 then nI 0 else nI 1) = nI 0 ∨ (if x = 0 then nI 0 else nI 1) = nI 1 := by
  by_cases q : x = 0
  · exact Or.inl (if_pos q)
  · exact Or.inr (if_neg q)
theorem co1_addRecord {a0 a1 a2 : Value} : mr_callok K1 yX1_addRecord [a0, a1, a2] := ⟨rfl, by decide, by decide, by show _ = some 3; decide +kernel⟩
theorem wo1_addRecord : GoodIn lw_all (wsV R_law 21 K1.1 yX1_addRecord (ws_ yX1_addRecord cX1_addRecord 5 (some .int))) := lw_V q116 q117 q118 q17 q119
theorem co2_addRecord {a0 a1 a2 : Value} : mr_callok K2 yX2_addRecord [a0, a1, a2] := ⟨rfl, by decide, by decide, by show _ = some 3; decide +kernel⟩
theorem wo2_addRecord : GoodIn lw_all (wsV R_law 25 K2.1 yX2_addRecord (ws_ yX2_addRecord cX2_addRecord 4 (some .int))) := lw_V q264 q265 q266 q18 q267
theorem lc_addRecord {h1 h2 L i : Nat} {xs : Nat → Int32} {G : lx_T} {fi fj : Nat → Int32} {ar br : Nat → Nat → Int32} (hG : lx_Cl h1 h2 L xs G) (hlt : i + 4 ≤ L) (hI : Inv fi ar fj br) (nx : ∀ fi ar fj br, Inv fi ar fj br → G 449 i [] fi ar fj br) : G 112 i [] fi ar fj br := by
  obtain ⟨MP, hC2, hC1⟩ := lw_addRecord hI (xs (i + 1)) (xs (i + 2)) (xs (i + 3))
  refine lx_aload1 hG dL_law_112 ?_
  show G 113 _ _ _ _ _ _
  refine lx_arg hG 1 (by omega) dL_law_113 dL_law_114 dL_law_115 (by decide) dL_law_116 dL_law_117 ?_
  show G 118 _ _ _ _ _ _
  refine lx_arg hG 2 (by omega) dL_law_118 dL_law_119 dL_law_120 (by decide) dL_law_121 dL_law_122 ?_
  show G 123 _ _ _ _ _ _
  refine lx_arg hG 3 (by omega) dL_law_123 dL_law_124 dL_law_125 (by decide) dL_law_126 dL_law_127 ?_
  show G 128 _ _ _ _ _ _
  refine lx_calli1 hG hC1 wo1_addRecord co1_addRecord (by decide) rfl (by exact Nat.le_of_ble_eq_true rfl) dL_law_128 (fun r1 f1 a1 hp1 => ?_)
  show G 131 _ _ _ _ _ _
  refine lx_aload2 hG dL_law_131 ?_
  show G 132 _ _ _ _ _ _
  refine lx_arg hG 1 (by omega) dL_law_132 dL_law_133 dL_law_134 (by decide) dL_law_135 dL_law_136 ?_
  show G 137 _ _ _ _ _ _
  refine lx_arg hG 2 (by omega) dL_law_137 dL_law_138 dL_law_139 (by decide) dL_law_140 dL_law_141 ?_
  show G 142 _ _ _ _ _ _
  refine lx_arg hG 3 (by omega) dL_law_142 dL_law_143 dL_law_144 (by decide) dL_law_145 dL_law_146 ?_
  show G 147 _ _ _ _ _ _
  refine lx_calli2 hG hC2 wo2_addRecord co2_addRecord (by decide) rfl (by exact Nat.le_of_ble_eq_true rfl) dL_law_147 (fun r2 f2 a2 hp2 => ?_)
  show G 150 _ _ _ _ _ _
  obtain ⟨e9, hI2⟩ := hp1 r2 f2 a2 hp2
  exact lx_cmp hG 449 dL_law_150 (by decide) e9 (nx _ _ _ _ hI2)
theorem co1_mapping {a0 a1 a2 : Value} : mr_callok K1 yX1_mapping [a0, a1, a2] := ⟨rfl, by decide, by decide, by show _ = some 3; decide +kernel⟩
theorem wo1_mapping : GoodIn lw_all (wsV R_law 26 K1.1 yX1_mapping (ws_ yX1_mapping cX1_mapping 4 (some .boolean))) := lw_V q120 q121 q122 q17 q123
theorem co2_mapping {a0 a1 a2 : Value} : mr_callok K2 yX2_mapping [a0, a1, a2] := ⟨rfl, by decide, by decide, by show _ = some 3; decide +kernel⟩
theorem wo2_mapping : GoodIn lw_all (wsV R_law 30 K2.1 yX2_mapping (ws_ yX2_mapping cX2_mapping 4 (some .boolean))) := lw_V q268 q269 q270 q18 q271
theorem lc_mapping {h1 h2 L i : Nat} {xs : Nat → Int32} {G : lx_T} {fi fj : Nat → Int32} {ar br : Nat → Nat → Int32} (hG : lx_Cl h1 h2 L xs G) (hlt : i + 4 ≤ L) (hI : Inv fi ar fj br) (nx : ∀ fi ar fj br, Inv fi ar fj br → G 449 i [] fi ar fj br) : G 155 i [] fi ar fj br := by
  obtain ⟨MP, hC2, hC1⟩ := lw_mapping hI (xs (i + 1)) (xs (i + 2)) (xs (i + 3))
  refine lx_aload1 hG dL_law_155 ?_
  show G 156 _ _ _ _ _ _
  refine lx_arg hG 1 (by omega) dL_law_156 dL_law_157 dL_law_158 (by decide) dL_law_159 dL_law_160 ?_
  show G 161 _ _ _ _ _ _
  refine lx_arg hG 2 (by omega) dL_law_161 dL_law_162 dL_law_163 (by decide) dL_law_164 dL_law_165 ?_
  show G 166 _ _ _ _ _ _
  refine lx_arg hG 3 (by omega) dL_law_166 dL_law_167 dL_law_168 (by decide) dL_law_169 dL_law_170 ?_
  show G 171 _ _ _ _ _ _
  refine lx_calli1 hG hC1 wo1_mapping co1_mapping (by decide) rfl (by exact Nat.le_of_ble_eq_true rfl) dL_law_171 (fun r1 f1 a1 hp1 => ?_)
  show G 174 _ _ _ _ _ _
  refine lx_aload2 hG dL_law_174 ?_
  show G 175 _ _ _ _ _ _
  refine lx_arg hG 1 (by omega) dL_law_175 dL_law_176 dL_law_177 (by decide) dL_law_178 dL_law_179 ?_
  show G 180 _ _ _ _ _ _
  refine lx_arg hG 2 (by omega) dL_law_180 dL_law_181 dL_law_182 (by decide) dL_law_183 dL_law_184 ?_
  show G 185 _ _ _ _ _ _
  refine lx_arg hG 3 (by omega) dL_law_185 dL_law_186 dL_law_187 (by decide) dL_law_188 dL_law_189 ?_
  show G 190 _ _ _ _ _ _
  refine lx_calli2 hG hC2 wo2_mapping co2_mapping (by decide) rfl (by exact Nat.le_of_ble_eq_true rfl) dL_law_190 (fun r2 f2 a2 hp2 => ?_)
  show G 193 _ _ _ _ _ _
  obtain ⟨e9, hI2⟩ := hp1 r2 f2 a2 hp2
  exact lx_cmp hG 449 dL_law_193 (by decide) e9 (nx _ _ _ _ hI2)
theorem co1_bounds {a0 a1 : Value} : mr_callok K1 yX1_bounds [a0, a1] := ⟨rfl, by decide, by decide, by show _ = some 2; decide +kernel⟩
theorem wo1_bounds : GoodIn lw_all (wsV R_law 31 K1.1 yX1_bounds (ws_ yX1_bounds cX1_bounds 3 none)) := lw_V q124 q125 q126 q17 q127
theorem co2_bounds {a0 a1 : Value} : mr_callok K2 yX2_bounds [a0, a1] := ⟨rfl, by decide, by decide, by show _ = some 2; decide +kernel⟩
theorem wo2_bounds : GoodIn lw_all (wsV R_law 34 K2.1 yX2_bounds (ws_ yX2_bounds cX2_bounds 3 none)) := lw_V q272 q273 q274 q18 q275
theorem lc_bounds {h1 h2 L i : Nat} {xs : Nat → Int32} {G : lx_T} {fi fj : Nat → Int32} {ar br : Nat → Nat → Int32} (hG : lx_Cl h1 h2 L xs G) (hlt : i + 4 ≤ L) (hI : Inv fi ar fj br) (nx : ∀ fi ar fj br, Inv fi ar fj br → G 449 i [] fi ar fj br) : G 198 i [] fi ar fj br := by
  obtain ⟨MP, hC2, hC1⟩ := lw_bounds hI (xs (i + 1)) (xs (i + 2))
  refine lx_aload1 hG dL_law_198 ?_
  show G 199 _ _ _ _ _ _
  refine lx_arg hG 1 (by omega) dL_law_199 dL_law_200 dL_law_201 (by decide) dL_law_202 dL_law_203 ?_
  show G 204 _ _ _ _ _ _
  refine lx_arg hG 2 (by omega) dL_law_204 dL_law_205 dL_law_206 (by decide) dL_law_207 dL_law_208 ?_
  show G 209 _ _ _ _ _ _
  refine lx_callv1 hG hC1 wo1_bounds co1_bounds (by decide) rfl (by exact Nat.le_of_ble_eq_true rfl) dL_law_209 (fun f1 a1 hp1 => ?_)
  show G 212 _ _ _ _ _ _
  refine lx_aload2 hG dL_law_212 ?_
  show G 213 _ _ _ _ _ _
  refine lx_arg hG 1 (by omega) dL_law_213 dL_law_214 dL_law_215 (by decide) dL_law_216 dL_law_217 ?_
  show G 218 _ _ _ _ _ _
  refine lx_arg hG 2 (by omega) dL_law_218 dL_law_219 dL_law_220 (by decide) dL_law_221 dL_law_222 ?_
  show G 223 _ _ _ _ _ _
  refine lx_callv2 hG hC2 wo2_bounds co2_bounds (by decide) rfl (by exact Nat.le_of_ble_eq_true rfl) dL_law_223 (fun f2 a2 hp2 => ?_)
  show G 226 _ _ _ _ _ _
  have hI2 := hp1 0 f2 a2 hp2
  exact lx_goto hG 449 dL_law_226 (by decide) (nx _ _ _ _ hI2)
theorem co1_failures {a0 a1 a2 : Value} : mr_callok K1 yX1_failures [a0, a1, a2] := ⟨rfl, by decide, by decide, by show _ = some 3; decide +kernel⟩
theorem wo1_failures : GoodIn lw_all (wsV R_law 35 K1.1 yX1_failures (ws_ yX1_failures cX1_failures 4 (some .boolean))) := lw_V q128 q129 q130 q17 q131
theorem co2_failures {a0 a1 a2 : Value} : mr_callok K2 yX2_failures [a0, a1, a2] := ⟨rfl, by decide, by decide, by show _ = some 3; decide +kernel⟩
theorem wo2_failures : GoodIn lw_all (wsV R_law 39 K2.1 yX2_failures (ws_ yX2_failures cX2_failures 4 (some .boolean))) := lw_V q276 q277 q278 q18 q279
theorem lc_failures {h1 h2 L i : Nat} {xs : Nat → Int32} {G : lx_T} {fi fj : Nat → Int32} {ar br : Nat → Nat → Int32} (hG : lx_Cl h1 h2 L xs G) (hlt : i + 4 ≤ L) (hI : Inv fi ar fj br) (nx : ∀ fi ar fj br, Inv fi ar fj br → G 449 i [] fi ar fj br) : G 229 i [] fi ar fj br := by
  obtain ⟨MP, hC2, hC1⟩ := lw_failures hI (if xs (i + 1) = 0 then nI 0 else nI 1) (xs (i + 2)) (xs (i + 3)) (lx_zb _)
  refine lx_aload1 hG dL_law_229 ?_
  show G 230 _ _ _ _ _ _
  refine lx_arg hG 1 (by omega) dL_law_230 dL_law_231 dL_law_232 (by decide) dL_law_233 dL_law_234 ?_
  show G 235 _ _ _ _ _ _
  refine lx_ne hG dL_law_235 dL_law_238 dL_law_239 dL_law_242 ?_
  show G 243 _ _ _ _ _ _
  refine lx_arg hG 2 (by omega) dL_law_243 dL_law_244 dL_law_245 (by decide) dL_law_246 dL_law_247 ?_
  show G 248 _ _ _ _ _ _
  refine lx_arg hG 3 (by omega) dL_law_248 dL_law_249 dL_law_250 (by decide) dL_law_251 dL_law_252 ?_
  show G 253 _ _ _ _ _ _
  refine lx_calli1 hG hC1 wo1_failures co1_failures (by decide) rfl (by exact Nat.le_of_ble_eq_true rfl) dL_law_253 (fun r1 f1 a1 hp1 => ?_)
  show G 256 _ _ _ _ _ _
  refine lx_aload2 hG dL_law_256 ?_
  show G 257 _ _ _ _ _ _
  refine lx_arg hG 1 (by omega) dL_law_257 dL_law_258 dL_law_259 (by decide) dL_law_260 dL_law_261 ?_
  show G 262 _ _ _ _ _ _
  refine lx_ne hG dL_law_262 dL_law_265 dL_law_266 dL_law_269 ?_
  show G 270 _ _ _ _ _ _
  refine lx_arg hG 2 (by omega) dL_law_270 dL_law_271 dL_law_272 (by decide) dL_law_273 dL_law_274 ?_
  show G 275 _ _ _ _ _ _
  refine lx_arg hG 3 (by omega) dL_law_275 dL_law_276 dL_law_277 (by decide) dL_law_278 dL_law_279 ?_
  show G 280 _ _ _ _ _ _
  refine lx_calli2 hG hC2 wo2_failures co2_failures (by decide) rfl (by exact Nat.le_of_ble_eq_true rfl) dL_law_280 (fun r2 f2 a2 hp2 => ?_)
  show G 283 _ _ _ _ _ _
  obtain ⟨e9, hI2⟩ := hp1 r2 f2 a2 hp2
  exact lx_cmp hG 449 dL_law_283 (by decide) e9 (nx _ _ _ _ hI2)
theorem co1_run {a0 : Value} : mr_callok K1 yX1_run [a0] := ⟨rfl, by decide, by decide, by show _ = some 1; decide +kernel⟩
theorem wo1_run : GoodIn lw_all (wsV R_law 40 K1.1 yX1_run (ws_ yX1_run cX1_run 4 (some .int))) := lw_V q132 q133 q134 q17 q135
theorem co2_run {a0 : Value} : mr_callok K2 yX2_run [a0] := ⟨rfl, by decide, by decide, by show _ = some 1; decide +kernel⟩
theorem wo2_run : GoodIn lw_all (wsV R_law 44 K2.1 yX2_run (ws_ yX2_run cX2_run 5 (some .int))) := lw_V q280 q281 q282 q18 q283
theorem lc_run {h1 h2 L i : Nat} {xs : Nat → Int32} {G : lx_T} {fi fj : Nat → Int32} {ar br : Nat → Nat → Int32} (hG : lx_Cl h1 h2 L xs G) (hlt : i + 4 ≤ L) (hI : Inv fi ar fj br) (nx : ∀ fi ar fj br, Inv fi ar fj br → G 449 i [] fi ar fj br) : G 288 i [] fi ar fj br := by
  obtain ⟨MP, hC2, hC1⟩ := lw_run hI (xs (i + 1))
  refine lx_aload1 hG dL_law_288 ?_
  show G 289 _ _ _ _ _ _
  refine lx_arg hG 1 (by omega) dL_law_289 dL_law_290 dL_law_291 (by decide) dL_law_292 dL_law_293 ?_
  show G 294 _ _ _ _ _ _
  refine lx_calli1 hG hC1 wo1_run co1_run (by decide) rfl (by exact Nat.le_of_ble_eq_true rfl) dL_law_294 (fun r1 f1 a1 hp1 => ?_)
  show G 297 _ _ _ _ _ _
  refine lx_aload2 hG dL_law_297 ?_
  show G 298 _ _ _ _ _ _
  refine lx_arg hG 1 (by omega) dL_law_298 dL_law_299 dL_law_300 (by decide) dL_law_301 dL_law_302 ?_
  show G 303 _ _ _ _ _ _
  refine lx_calli2 hG hC2 wo2_run co2_run (by decide) rfl (by exact Nat.le_of_ble_eq_true rfl) dL_law_303 (fun r2 f2 a2 hp2 => ?_)
  show G 306 _ _ _ _ _ _
  obtain ⟨e9, hI2⟩ := hp1 r2 f2 a2 hp2
  exact lx_cmp hG 449 dL_law_306 (by decide) e9 (nx _ _ _ _ hI2)
theorem co1_results {a0 : Value} : mr_callok K1 yX1_results [a0] := ⟨rfl, by decide, by decide, by show _ = some 1; decide +kernel⟩
theorem wo1_results : GoodIn lw_all (wsV R_law 45 K1.1 yX1_results (ws_ yX1_results cX1_results 2 (some .int))) := lw_V q184 q185 q186 q17 q187
theorem co2_results {a0 : Value} : mr_callok K2 yX2_results [a0] := ⟨rfl, by decide, by decide, by show _ = some 1; decide +kernel⟩
theorem wo2_results : GoodIn lw_all (wsV R_law 48 K2.1 yX2_results (ws_ yX2_results cX2_results 4 (some .int))) := lw_V q296 q297 q298 q18 q299
theorem lc_results {h1 h2 L i : Nat} {xs : Nat → Int32} {G : lx_T} {fi fj : Nat → Int32} {ar br : Nat → Nat → Int32} (hG : lx_Cl h1 h2 L xs G) (hlt : i + 4 ≤ L) (hI : Inv fi ar fj br) (nx : ∀ fi ar fj br, Inv fi ar fj br → G 449 i [] fi ar fj br) : G 311 i [] fi ar fj br := by
  obtain ⟨MP, hC2, hC1⟩ := lw_results hI (xs (i + 1))
  refine lx_aload1 hG dL_law_311 ?_
  show G 312 _ _ _ _ _ _
  refine lx_arg hG 1 (by omega) dL_law_312 dL_law_313 dL_law_314 (by decide) dL_law_315 dL_law_316 ?_
  show G 317 _ _ _ _ _ _
  refine lx_calli1 hG hC1 wo1_results co1_results (by decide) rfl (by exact Nat.le_of_ble_eq_true rfl) dL_law_317 (fun r1 f1 a1 hp1 => ?_)
  show G 320 _ _ _ _ _ _
  refine lx_aload2 hG dL_law_320 ?_
  show G 321 _ _ _ _ _ _
  refine lx_arg hG 1 (by omega) dL_law_321 dL_law_322 dL_law_323 (by decide) dL_law_324 dL_law_325 ?_
  show G 326 _ _ _ _ _ _
  refine lx_calli2 hG hC2 wo2_results co2_results (by decide) rfl (by exact Nat.le_of_ble_eq_true rfl) dL_law_326 (fun r2 f2 a2 hp2 => ?_)
  show G 329 _ _ _ _ _ _
  obtain ⟨e9, hI2⟩ := hp1 r2 f2 a2 hp2
  exact lx_cmp hG 449 dL_law_329 (by decide) e9 (nx _ _ _ _ hI2)
theorem co1_keyAt {a0 a1 : Value} : mr_callok K1 yX1_keyAt [a0, a1] := ⟨rfl, by decide, by decide, by show _ = some 2; decide +kernel⟩
theorem wo1_keyAt : GoodIn lw_all (wsV R_law 49 K1.1 yX1_keyAt (ws_ yX1_keyAt cX1_keyAt 3 (some .int))) := lw_V q188 q189 q190 q17 q191
theorem co2_keyAt {a0 a1 : Value} : mr_callok K2 yX2_keyAt [a0, a1] := ⟨rfl, by decide, by decide, by show _ = some 2; decide +kernel⟩
theorem wo2_keyAt : GoodIn lw_all (wsV R_law 53 K2.1 yX2_keyAt (ws_ yX2_keyAt cX2_keyAt 5 (some .int))) := lw_V q300 q301 q302 q18 q303
theorem lc_keyAt {h1 h2 L i : Nat} {xs : Nat → Int32} {G : lx_T} {fi fj : Nat → Int32} {ar br : Nat → Nat → Int32} (hG : lx_Cl h1 h2 L xs G) (hlt : i + 4 ≤ L) (hI : Inv fi ar fj br) (nx : ∀ fi ar fj br, Inv fi ar fj br → G 449 i [] fi ar fj br) : G 334 i [] fi ar fj br := by
  obtain ⟨MP, hC2, hC1⟩ := lw_keyAt hI (xs (i + 1)) (xs (i + 2))
  refine lx_aload1 hG dL_law_334 ?_
  show G 335 _ _ _ _ _ _
  refine lx_arg hG 1 (by omega) dL_law_335 dL_law_336 dL_law_337 (by decide) dL_law_338 dL_law_339 ?_
  show G 340 _ _ _ _ _ _
  refine lx_arg hG 2 (by omega) dL_law_340 dL_law_341 dL_law_342 (by decide) dL_law_343 dL_law_344 ?_
  show G 345 _ _ _ _ _ _
  refine lx_calli1 hG hC1 wo1_keyAt co1_keyAt (by decide) rfl (by exact Nat.le_of_ble_eq_true rfl) dL_law_345 (fun r1 f1 a1 hp1 => ?_)
  show G 348 _ _ _ _ _ _
  refine lx_aload2 hG dL_law_348 ?_
  show G 349 _ _ _ _ _ _
  refine lx_arg hG 1 (by omega) dL_law_349 dL_law_350 dL_law_351 (by decide) dL_law_352 dL_law_353 ?_
  show G 354 _ _ _ _ _ _
  refine lx_arg hG 2 (by omega) dL_law_354 dL_law_355 dL_law_356 (by decide) dL_law_357 dL_law_358 ?_
  show G 359 _ _ _ _ _ _
  refine lx_calli2 hG hC2 wo2_keyAt co2_keyAt (by decide) rfl (by exact Nat.le_of_ble_eq_true rfl) dL_law_359 (fun r2 f2 a2 hp2 => ?_)
  show G 362 _ _ _ _ _ _
  obtain ⟨e9, hI2⟩ := hp1 r2 f2 a2 hp2
  exact lx_cmp hG 449 dL_law_362 (by decide) e9 (nx _ _ _ _ hI2)
theorem co1_valueAt {a0 a1 : Value} : mr_callok K1 yX1_valueAt [a0, a1] := ⟨rfl, by decide, by decide, by show _ = some 2; decide +kernel⟩
theorem wo1_valueAt : GoodIn lw_all (wsV R_law 54 K1.1 yX1_valueAt (ws_ yX1_valueAt cX1_valueAt 3 (some .int))) := lw_V q196 q197 q198 q17 q199
theorem co2_valueAt {a0 a1 : Value} : mr_callok K2 yX2_valueAt [a0, a1] := ⟨rfl, by decide, by decide, by show _ = some 2; decide +kernel⟩
theorem wo2_valueAt : GoodIn lw_all (wsV R_law 57 K2.1 yX2_valueAt (ws_ yX2_valueAt cX2_valueAt 4 (some .int))) := lw_V q304 q305 q306 q18 q307
theorem lc_valueAt {h1 h2 L i : Nat} {xs : Nat → Int32} {G : lx_T} {fi fj : Nat → Int32} {ar br : Nat → Nat → Int32} (hG : lx_Cl h1 h2 L xs G) (hlt : i + 4 ≤ L) (hI : Inv fi ar fj br) (nx : ∀ fi ar fj br, Inv fi ar fj br → G 449 i [] fi ar fj br) : G 367 i [] fi ar fj br := by
  obtain ⟨MP, hC2, hC1⟩ := lw_valueAt hI (xs (i + 1)) (xs (i + 2))
  refine lx_aload1 hG dL_law_367 ?_
  show G 368 _ _ _ _ _ _
  refine lx_arg hG 1 (by omega) dL_law_368 dL_law_369 dL_law_370 (by decide) dL_law_371 dL_law_372 ?_
  show G 373 _ _ _ _ _ _
  refine lx_arg hG 2 (by omega) dL_law_373 dL_law_374 dL_law_375 (by decide) dL_law_376 dL_law_377 ?_
  show G 378 _ _ _ _ _ _
  refine lx_calli1 hG hC1 wo1_valueAt co1_valueAt (by decide) rfl (by exact Nat.le_of_ble_eq_true rfl) dL_law_378 (fun r1 f1 a1 hp1 => ?_)
  show G 381 _ _ _ _ _ _
  refine lx_aload2 hG dL_law_381 ?_
  show G 382 _ _ _ _ _ _
  refine lx_arg hG 1 (by omega) dL_law_382 dL_law_383 dL_law_384 (by decide) dL_law_385 dL_law_386 ?_
  show G 387 _ _ _ _ _ _
  refine lx_arg hG 2 (by omega) dL_law_387 dL_law_388 dL_law_389 (by decide) dL_law_390 dL_law_391 ?_
  show G 392 _ _ _ _ _ _
  refine lx_calli2 hG hC2 wo2_valueAt co2_valueAt (by decide) rfl (by exact Nat.le_of_ble_eq_true rfl) dL_law_392 (fun r2 f2 a2 hp2 => ?_)
  show G 395 _ _ _ _ _ _
  obtain ⟨e9, hI2⟩ := hp1 r2 f2 a2 hp2
  exact lx_cmp hG 449 dL_law_395 (by decide) e9 (nx _ _ _ _ hI2)
theorem co1_mapped : mr_callok K1 yX1_mapped [] := ⟨rfl, by decide, by decide, by decide +kernel⟩
theorem wo1_mapped : GoodIn lw_all (wsV R_law 58 K1.1 yX1_mapped (ws_ yX1_mapped cX1_mapped 1 (some .int))) := lw_V q200 q201 q202 q17 q203
theorem co2_mapped : mr_callok K2 yX2_mapped [] := ⟨rfl, by decide, by decide, by decide +kernel⟩
theorem wo2_mapped : GoodIn lw_all (wsV R_law 62 K2.1 yX2_mapped (ws_ yX2_mapped cX2_mapped 1 (some .int))) := lw_V q309 q310 q311 q18 q312
theorem lc_mapped {h1 h2 L i : Nat} {xs : Nat → Int32} {G : lx_T} {fi fj : Nat → Int32} {ar br : Nat → Nat → Int32} (hG : lx_Cl h1 h2 L xs G) (hlt : i + 4 ≤ L) (hI : Inv fi ar fj br) (nx : ∀ fi ar fj br, Inv fi ar fj br → G 449 i [] fi ar fj br) : G 400 i [] fi ar fj br := by
  obtain ⟨MP, hC2, hC1⟩ := lw_mapped hI 
  refine lx_aload1 hG dL_law_400 ?_
  show G 401 _ _ _ _ _ _
  refine lx_calli1 hG hC1 wo1_mapped co1_mapped (by decide) rfl (by exact Nat.le_of_ble_eq_true rfl) dL_law_401 (fun r1 f1 a1 hp1 => ?_)
  show G 404 _ _ _ _ _ _
  refine lx_aload2 hG dL_law_404 ?_
  show G 405 _ _ _ _ _ _
  refine lx_calli2 hG hC2 wo2_mapped co2_mapped (by decide) rfl (by exact Nat.le_of_ble_eq_true rfl) dL_law_405 (fun r2 f2 a2 hp2 => ?_)
  show G 408 _ _ _ _ _ _
  obtain ⟨e9, hI2⟩ := hp1 r2 f2 a2 hp2
  exact lx_cmp hG 449 dL_law_408 (by decide) e9 (nx _ _ _ _ hI2)
theorem co1_feedBack : mr_callok K1 yX1_feedBack [] := ⟨rfl, by decide, by decide, by decide +kernel⟩
theorem wo1_feedBack : GoodIn lw_all (wsV R_law 63 K1.1 yX1_feedBack (ws_ yX1_feedBack cX1_feedBack 5 (some .int))) := lw_V q204 q205 q206 q17 q207
theorem co2_feedBack : mr_callok K2 yX2_feedBack [] := ⟨rfl, by decide, by decide, by decide +kernel⟩
theorem wo2_feedBack : GoodIn lw_all (wsV R_law 66 K2.1 yX2_feedBack (ws_ yX2_feedBack cX2_feedBack 3 (some .int))) := lw_V q313 q314 q315 q18 q316
theorem lc_feedBack {h1 h2 L i : Nat} {xs : Nat → Int32} {G : lx_T} {fi fj : Nat → Int32} {ar br : Nat → Nat → Int32} (hG : lx_Cl h1 h2 L xs G) (hlt : i + 4 ≤ L) (hI : Inv fi ar fj br) (nx : ∀ fi ar fj br, Inv fi ar fj br → G 449 i [] fi ar fj br) : G 413 i [] fi ar fj br := by
  obtain ⟨MP, hC2, hC1⟩ := lw_feedBack hI 
  refine lx_aload1 hG dL_law_413 ?_
  show G 414 _ _ _ _ _ _
  refine lx_calli1 hG hC1 wo1_feedBack co1_feedBack (by decide) rfl (by exact Nat.le_of_ble_eq_true rfl) dL_law_414 (fun r1 f1 a1 hp1 => ?_)
  show G 417 _ _ _ _ _ _
  refine lx_aload2 hG dL_law_417 ?_
  show G 418 _ _ _ _ _ _
  refine lx_calli2 hG hC2 wo2_feedBack co2_feedBack (by decide) rfl (by exact Nat.le_of_ble_eq_true rfl) dL_law_418 (fun r2 f2 a2 hp2 => ?_)
  show G 421 _ _ _ _ _ _
  obtain ⟨e9, hI2⟩ := hp1 r2 f2 a2 hp2
  exact lx_cmp hG 449 dL_law_421 (by decide) e9 (nx _ _ _ _ hI2)
theorem co1_emptySplit {a0 : Value} : mr_callok K1 yX1_emptySplit [a0] := ⟨rfl, by decide, by decide, by show _ = some 1; decide +kernel⟩
theorem wo1_emptySplit : GoodIn lw_all (wsV R_law 67 K1.1 yX1_emptySplit (ws_ yX1_emptySplit cX1_emptySplit 3 (some .int))) := lw_V q208 q209 q210 q17 q211
theorem co2_emptySplit {a0 : Value} : mr_callok K2 yX2_emptySplit [a0] := ⟨rfl, by decide, by decide, by show _ = some 1; decide +kernel⟩
theorem wo2_emptySplit : GoodIn lw_all (wsV R_law 70 K2.1 yX2_emptySplit (ws_ yX2_emptySplit cX2_emptySplit 3 (some .int))) := lw_V q318 q319 q320 q18 q321
theorem lc_emptySplit {h1 h2 L i : Nat} {xs : Nat → Int32} {G : lx_T} {fi fj : Nat → Int32} {ar br : Nat → Nat → Int32} (hG : lx_Cl h1 h2 L xs G) (hlt : i + 4 ≤ L) (hI : Inv fi ar fj br) (nx : ∀ fi ar fj br, Inv fi ar fj br → G 449 i [] fi ar fj br) : G 426 i [] fi ar fj br := by
  obtain ⟨MP, hC2, hC1⟩ := lw_emptySplit hI (xs (i + 1))
  refine lx_aload1 hG dL_law_426 ?_
  show G 427 _ _ _ _ _ _
  refine lx_arg hG 1 (by omega) dL_law_427 dL_law_428 dL_law_429 (by decide) dL_law_430 dL_law_431 ?_
  show G 432 _ _ _ _ _ _
  refine lx_calli1 hG hC1 wo1_emptySplit co1_emptySplit (by decide) rfl (by exact Nat.le_of_ble_eq_true rfl) dL_law_432 (fun r1 f1 a1 hp1 => ?_)
  show G 435 _ _ _ _ _ _
  refine lx_aload2 hG dL_law_435 ?_
  show G 436 _ _ _ _ _ _
  refine lx_arg hG 1 (by omega) dL_law_436 dL_law_437 dL_law_438 (by decide) dL_law_439 dL_law_440 ?_
  show G 441 _ _ _ _ _ _
  refine lx_calli2 hG hC2 wo2_emptySplit co2_emptySplit (by decide) rfl (by exact Nat.le_of_ble_eq_true rfl) dL_law_441 (fun r2 f2 a2 hp2 => ?_)
  show G 444 _ _ _ _ _ _
  obtain ⟨e9, hI2⟩ := hp1 r2 f2 a2 hp2
  exact lx_cmp hG 449 dL_law_444 (by decide) e9 (nx _ _ _ _ hI2)
/-- THE LOOP -/
theorem lx_loop {h1 h2 L : Nat} {xs : Nat → Int32} {G : lx_T} (hG : lx_Cl h1 h2 L xs G) (hL : L ≤ 258) : ∀ (n i : Nat) (fi : Nat → Int32) (ar : Nat → Nat → Int32) (fj : Nat → Int32) (br : Nat → Nat → Int32), i ≤ L + 4 → L ≤ i + n → Inv fi ar fj br → G 38 i [] fi ar fj br := by
  intro n
  induction n with
  | zero =>
    intro i fi ar fj br hi hin hI
    exact lx_head hG (by omega) (lx_end hG) (fun q => absurd q (by omega))
  | succ n ih =>
    intro i fi ar fj br hi hin hI
    refine lx_head hG (by omega) (lx_end hG) (fun q => ?_)
    have nx : ∀ fi ar fj br, Inv fi ar fj br → G 449 i [] fi ar fj br := fun fi ar fj br hI => lx_next hG (ih (i + 4) fi ar fj br (by omega) (by omega) hI)
    exact lx_switch hG q (lc_addRecord hG q hI nx) (lc_mapping hG q hI nx) (lc_bounds hG q hI nx) (lc_failures hG q hI nx) (lc_run hG q hI nx) (lc_results hG q hI nx) (lc_keyAt hG q hI nx) (lc_valueAt hG q hI nx) (lc_mapped hG q hI nx) (lc_feedBack hG q hI nx) (lc_emptySplit hG q hI nx) (nx _ _ _ _ hI)
end
section
set_option maxRecDepth 100000
set_option linter.unusedVariables false
/-! the script's first cells, and the law from its entry -/
def lx_xc (L : Nat) (xs : Nat → Int32) (k : Nat) : Int32 := if k < L then xs k else 0
/-- cell(script, k) -/
theorem ct_cell (l : Launch) (b L k : Nat) (xs : Nat → Int32) (hL : L ≤ 258) (hk : k ≤ 258) : Met l yX0_cell (ws_ yX0_cell cX0_cell 2 (some .int)) { frames := 0, cells := 0, slots := 0, locals := 0 } (va_Pc [.ref b, .int (nI k)] (fun U => b < U.heap.size ∧ va_X b L xs U U.heap)) (va_Qi (fun (r : Int32) (_ : Unit) => r = lx_xc L xs k) (fun _ _ => True) (fun _ => False)) 0 0 (fun _ => False) := by
  refine Met.ofW (cc := cX0_cell) (maxL := 2) (ret := some .int) (by decide) rfl ?_
  intro p e s m args below meth c s₁ B hml hv
  obtain ⟨rfl, hbl, hX⟩ := hv
  have hx := B.exec
  have hb := B.bytes
  have hr := B.returns
  have hlocks := B.notSynchronized
  have hbA : ¬ (fun _ : Nat => False) b := fun h => h
  have hS : va_S (fun _ => False) s.heap s.heap [] := va_S.rf
  have hl := lv_entry ([.ref b, .int (nI k)]) (n := 2) (Nat.le_of_ble_eq_true rfl)
  rw [lg_entry_eq]
  generalize (lg_sl ([.ref b, .int (nI k)]) ++ List.replicate (2 - (lg_sl ([.ref b, .int (nI k)])).length) Slot.unset).toArray = ls at hl ⊢
  have hl : lv_has ls 2 [(0, .ref b), (1, .int (nI k))] := hl
  refine lv_iload_n hx hb dX0_cell_0 rfl (lv_at hl 1 rfl) ?_
  refine lv_aload_n hx hb dX0_cell_1 rfl (lv_at hl 0 rfl) ?_
  refine va_slen hx hb hX hbl hbA hS dX0_cell_2 ?_
  refine lv_icmp_ge (tgt := 12) hx hb dX0_cell_3 (by decide) (fun q => ?_) (fun q => ?_)
  · have q : nI L ≤ nI k := q
    rw [nI_leI (by omega) (by omega)] at q
    refine lv_iconst (v := 0) hx hb dX0_cell_12 (by decide) ?_
    exact W.iret (v := 0) hx hb hr (fun t ht hW => ⟨⟨0, (), rfl, (if_neg (by omega)).symm, trivial⟩, hS.F ht⟩) hS.2.2 dX0_cell_13 hlocks
  · have q : ¬ nI L ≤ nI k := q
    rw [nI_leI (by omega) (by omega)] at q
    refine lv_aload_n hx hb dX0_cell_6 rfl (lv_at hl 0 rfl) ?_
    refine lv_iload_n hx hb dX0_cell_7 rfl (lv_at hl 1 rfl) ?_
    refine va_sld hx hb hX hbl hbA hS (vp_in_nI (by omega) (by omega)) dX0_cell_8 ?_
    rw [nI_clamp (by omega)]
    refine lv_goto (tgt := 13) hx hb dX0_cell_9 (by decide) ?_
    exact W.iret (v := xs k) hx hb hr (fun t ht hW => ⟨⟨xs k, (), rfl, (if_pos (by omega)).symm, trivial⟩, hS.F ht⟩) hS.2.2 dX0_cell_13 hlocks
/-- its call -/
theorem lx_cell {p : Program} {l : Launch} {e : Env} {s : State} {m : MethodId} {below : List Frame} {meth : Method} {c : Code} {b L pc k cells slots : Nat} {xs : Nat → Int32} {Q : State → Prop} {ls : Array Slot} {H : Heap} {locs : List Loc} {rest : List Value} {z : Int} (hL : L ≤ 258) (C0 : lw_At p s m meth c b L xs) (hk : k ≤ 258) (d0 : decode code pc = .ok (.aload_n 0, 1)) (d1 : decode code (pc + 1) = .ok (.iconst z, 1)) (hz : Int32.ofInt z = nI k) (d2 : decode code (pc + 2) = .ok (.invokestatic 9, 3)) (hc : cells ≤ 600000 ∧ slots ≤ 7290000) (hl0 : ls[0]? = some (.val (.ref b))) (hsz : ls.size = 4) (hrest : (rest.map fun v => v.category).sum ≤ 8) (hS : va_S (lx_A s) s.heap H locs)
    (kk : ∀ (H1 : Heap) (locs1 : List Loc), H.size ≤ H1.size → (∀ q : Nat, q < H.size → H1[q]? = H[q]?) → va_S (lx_A s) s.heap H1 locs1 → W p l e room_1 s m #[Value.ref b] below meth c H1 locs1 cells slots Q (F0 m (pc + 5) ls (.int (lx_xc L xs k) :: rest))) : W p l e room_1 s m #[Value.ref b] below meth c H locs cells slots Q (F0 m pc ls rest) := by
  obtain ⟨hx, hb, hr, hml, hown, hts0, hX, hbl, hlocks, hgv⟩ := id C0
  have hts : ∀ w ∈ lw_all, w.before #[Value.ref b] s = true := fun w h => hts0 w (lw_all_tbl h)
  have hbA : ¬ (lx_A s) b := Nat.not_le.mpr hbl
  have hX1 : va_X b L xs s H := hX.kept (hS.2.1 b hbl hbA)
  have hb1 : b < H.size := Nat.lt_of_lt_of_le hbl hS.1
  refine lv_aload_n hx hb d0 rfl hl0 ?_
  refine lv_iconst hx hb d1 hz ?_
  refine va_calli (va_runS (As := [.ref b, .int (nI k)]) (rest := rest) ⟨hx, hb, hml, hown, hts⟩ (ct_cell l b L k xs hL hk) (va_cwS 2 hts (lw_S q212 q213 q16 q214) rfl rfl rfl ⟨by decide, by decide, by decide +kernel⟩ ⟨Nat.le_of_ble_eq_true rfl, Nat.le_of_ble_eq_true rfl⟩) ⟨fun a U g mk q => by obtain ⟨q0, q1, q2⟩ := q; exact ⟨q0, q1, va_X.moved (u := U) (U := U.calling g mk a) (Vm.Alike.refl U.vm) q2⟩, fun U hU hW => ⟨rfl, by rw [hU]; exact hb1, by rw [hU]; exact va_X.moved hW.alike hX1⟩⟩ rfl rfl hsz rfl (lv_room hrest) d2 ⟨hc.1, hc.2⟩) hS (fun q _ hq => hq.elim) (fun q hq => hq.elim) (fun r u t H1 locs1 ht hvm hpost hB hz1 hk1 hS1 => ?_)
  subst hpost
  exact kk H1 locs1 hz1 (fun q hq => hk1 q hq (fun h => h)) hS1
theorem mr_adr {K : mr_Kd} {h : Nat} {ad : Nat → Nat} {cA : Nat → ClassId} {fi fi' : Nat → Int32} {ar ar' : Nat → Nat → Int32} (j : Nat) (q : Nat × va_E) (hq : (mr_ws K h ad cA fi' ar')[j]? = some q) : ∃ q0, (mr_ws K h ad cA fi ar)[j]? = some q0 ∧ q0.1 = q.1 := by
  cases j with
  | zero => cases hq; exact ⟨_, rfl, rfl⟩
  | succ j =>
    unfold mr_ws at hq ⊢
    rw [List.getElem?_cons_succ, List.getElem?_map] at hq ⊢
    cases hb : K.2.2.2.2[j]? with
    | none => rw [hb] at hq; cases hq
    | some b => rw [hb] at hq; cases hq; exact ⟨_, rfl, rfl⟩
theorem hf_X1 : ∀ j, j < 28 → defaultValue (tyX1 j) = vp_V (gi_fs K1 fsX1) j := by
  intro j hj
  match j, hj with
  | 0, _ => rfl
  | 1, _ => rfl
  | 2, _ => rfl
  | 3, _ => rfl
  | 4, _ => rfl
  | 5, _ => rfl
  | 6, _ => rfl
  | 7, _ => rfl
  | 8, _ => rfl
  | 9, _ => rfl
  | 10, _ => rfl
  | 11, _ => rfl
  | 12, _ => rfl
  | 13, _ => rfl
  | 14, _ => rfl
  | 15, _ => rfl
  | 16, _ => rfl
  | 17, _ => rfl
  | 18, _ => rfl
  | 19, _ => rfl
  | 20, _ => rfl
  | 21, _ => rfl
  | 22, _ => rfl
  | 23, _ => rfl
  | 24, _ => rfl
  | 25, _ => rfl
  | 26, _ => rfl
  | 27, _ => rfl
  | j + 28, hj => omega
theorem hf_X2 : ∀ j, j < 13 → defaultValue (tyX2 j) = vp_V (gi_fs K2 fsX2) j := by
  intro j hj
  match j, hj with
  | 0, _ => rfl
  | 1, _ => rfl
  | 2, _ => rfl
  | 3, _ => rfl
  | 4, _ => rfl
  | 5, _ => rfl
  | 6, _ => rfl
  | 7, _ => rfl
  | 8, _ => rfl
  | 9, _ => rfl
  | 10, _ => rfl
  | 11, _ => rfl
  | 12, _ => rfl
  | j + 13, hj => omega
set_option maxHeartbeats 4000000 in
/-- THE LAW, from its entry -/
theorem whole_start {p : Program} {e : Env} {s : State} {m : MethodId} {below : List Frame} {meth : Method} {c : Code} (l : Launch) {b L : Nat} {xs : Nat → Int32} (hL : L ≤ 258) (C0 : lw_At p s m meth c b L xs) : W p l e room_1 s m #[Value.ref b] below meth c s.heap [] 0 0 (lw_Z below #[Value.ref b] s) (entryFrame m ([Value.ref b] : List Value).toArray 4) := by
  obtain ⟨hx, hb, hr, hml, hown, hts0, hX, hbl, hlocks, hgv⟩ := id C0
  have hts : ∀ w ∈ lw_all, w.before #[Value.ref b] s = true := fun w h => hts0 w (lw_all_tbl h)
  have hA : ∀ q : Nat, s.heap.size ≤ q → (lx_A s) q := fun _ h => h
  obtain ⟨c0, iS0, hKn0⟩ := u_known (C := RX1) (T := TX1) (N := 28) (n := 28) hts in_X1 (hts _ q20)
  obtain ⟨c1, iS1, hKn1⟩ := u_known (C := RX2) (T := TX2) (N := 13) (n := 13) hts in_X2 (hts _ q216)
  obtain ⟨D, hKc⟩ : ∃ D : va_G, ∀ (k : Nat) (q : vw_C), vwCl[k]? = some q → u_Kn s q.1 q.2.1 q.2.2 (D.1 k) (D.2 k) := by
    refine ⟨(fun k => if k = 0 then c0 else c1, fun k => if k = 0 then iS0 else iS1), ?_⟩
    intro k q hq
    match k, hq with
    | 0, hq => cases hq; exact hKn0
    | 1, hq => cases hq; exact hKn1
    | k + 2, hq => simp [vwCl] at hq
  have hS : va_S (lx_A s) s.heap s.heap [] := va_S.rf
  have hK : va_K D vwCl [] s := ⟨hKc, fun k q h => by simp at h⟩
  have hP : va_P D vwCl [] s.heap := fun k q h => by simp at h
  have hD : va_D (lx_A s) [] := ⟨fun i j p q h => by simp at h, fun k q h => by simp at h⟩
  have hl := lv_entry ([.ref b]) (n := 4) (Nat.le_of_ble_eq_true rfl)
  rw [lg_entry_eq]
  generalize (lg_sl ([.ref b]) ++ List.replicate (4 - (lg_sl ([.ref b])).length) Slot.unset).toArray = ls at hl ⊢
  have hl : lv_has ls 4 [(0, .ref b)] := hl
  refine va_new (ci := 0) (fs := gi_fs K1 fsX1) (C := RX1) (T := TX1) (N := 28) hx hb hts in_X1 tyX1 tyX1_ok hown (hts _ q19) (hts _ q20) (hts _ q17) hK hP hD hS hA rfl hf_X1 (Nat.le_of_ble_eq_true rfl) (Nat.le_of_ble_eq_true rfl) dL_law_0 (fun h1 H hP hD hS => ?_)
  have hP : va_P D vwCl (gi_ws K1 h1 fsX1 []) H := hP
  have hD : va_D (lx_A s) (gi_ws K1 h1 fsX1 []) := hD
  refine W.widen (k := 1) (n := 28) (by omega) (by omega) ?_
  refine lv_dup hx hb dL_law_3 rfl ?_
  refine lx_cell (k := 0) hL C0 (by omega) dL_law_4 dL_law_5 (by decide) dL_law_6 ⟨by omega, by omega⟩ (lv_at hl 0 rfl) hl.1 (by exact Nat.le_of_ble_eq_true rfl) hS (fun H2 locs2 hz2 hk2 hS => ?_)
  have hP := hP.kept (H1 := H2) (fun k q hk => hk2 q.1 (hP k q hk).lt)
  refine lx_cell (k := 1) hL C0 (by omega) dL_law_9 dL_law_10 (by decide) dL_law_11 ⟨by omega, by omega⟩ (lv_at hl 0 rfl) hl.1 (by exact Nat.le_of_ble_eq_true rfl) hS (fun H3 locs3 hz3 hk3 hS => ?_)
  have hP := hP.kept (H1 := H3) (fun k q hk => hk3 q.1 (hP k q hk).lt)
  have hF : ∀ q, va_A (gi_ws K1 h1 fsX1 []) H3.size q → (lx_A s) q := by
    intro q hq
    rcases hq with ⟨k, e', hq⟩ | hq
    · exact hD.2 k _ hq
    · exact Nat.le_trans hS.1 hq
  refine va_callv (va_runI (As := [.int (lx_xc L xs 0), .int (lx_xc L xs 1)]) (rest := [.ref h1]) ⟨hx, hb, hml, hown, hts⟩ (ct_init (a := lx_xc L xs 0) (b := lx_xc L xs 1) l D h1 H3.size) (cwI 2 hts (lw_meth q23) rfl rfl rfl (hts _ q17) (hts _ q21) (hts _ q22) rfl ⟨by decide, by decide, by decide +kernel⟩ ⟨Nat.le_of_ble_eq_true rfl, Nat.le_of_ble_eq_true rfl⟩) ⟨fun a U g mk q => by obtain ⟨q0, q1, qP, qK, qD⟩ := q; exact ⟨q0, q1, qP, va_K.moved (u := U) (U := U.calling g mk a) (Vm.Alike.refl U.vm) qK, qD⟩, fun U hU hW => ⟨rfl, by rw [hU], by rw [hU]; exact hP, va_K.moved hW.alike hK, hD.weaken (fun _ _ _ _ => trivial)⟩⟩ rfl rfl hl.1 rfl (lv_room (Nat.le_of_ble_eq_true rfl)) dL_law_14 ⟨Nat.le_of_ble_eq_true rfl, Nat.le_of_ble_eq_true rfl⟩) hS (fun q _ h => hF q h) hF (fun u t H4 locs4 ht hvm hw hB hz4 hk4 hS => ?_)
  obtain ⟨ad1, cA1, f1, a1⟩ := u
  obtain ⟨hP1, hK1, hD1⟩ := hB
  have hw : (f1, a1) = (fiX1 (lx_xc L xs 0) (lx_xc L xs 1), fun _ _ => 0) := hw
  cases hw
  rw [ht] at hP1
  have hK1 : va_K D vwCl (mr_tys K1 cA1) s := va_K.moved hvm.symm hK1
  have hP1 : va_P D vwCl (mr_ws K1 h1 ad1 cA1 (fiX1 (lx_xc L xs 0) (lx_xc L xs 1)) (fun _ _ => 0)) H4 := hP1
  have hD1 : va_D (lx_A s) (mr_ws K1 h1 ad1 cA1 (fiX1 (lx_xc L xs 0) (lx_xc L xs 1)) (fun _ _ => 0)) := hD1.weaken (fun k q _ h => hF q.1 h)
  generalize hws : mr_ws K1 h1 ad1 cA1 (fiX1 (lx_xc L xs 0) (lx_xc L xs 1)) (fun _ _ => 0) = ws1 at hP1 hD1
  refine W.widen (k := 16) (n := 573) (by omega) (by omega) ?_
  refine lv_astore_n (lv' := [(1, .ref h1), (0, .ref b)]) hx hb dL_law_17 rfl hl (by decide) rfl (fun ls hl => ?_)
  refine va_new (ci := 1) (fs := gi_fs K2 fsX2) (C := RX2) (T := TX2) (N := 13) hx hb hts in_X2 tyX2 tyX2_ok hown (hts _ q215) (hts _ q216) (hts _ q18) hK hP1 hD1 hS hA rfl hf_X2 (Nat.le_of_ble_eq_true rfl) (Nat.le_of_ble_eq_true rfl) dL_law_18 (fun h2 H5 hP5 hD5 hS => ?_)
  have hP1 : va_P D vwCl ws1 H5 := fun k q hk => hP5 k q (by rw [List.getElem?_append_left (List.getElem?_eq_some_iff.mp hk).1]; exact hk)
  have hP2 : va_P D vwCl (gi_ws K2 h2 fsX2 []) H5 := fun k q hk => hP5 (ws1.length + k) q (by rw [List.getElem?_append_right (Nat.le_add_right _ _), Nat.add_sub_cancel_left]; exact hk)
  have hne : ∀ (k : Nat) (q : Nat × va_E), ws1[k]? = some q → q.1 ≠ h2 := by
    intro k q hk he
    have hlt := (List.getElem?_eq_some_iff.mp hk).1
    have h9 := hD5.1 k ws1.length q (h2, .inr (1, gi_fs K2 fsX2)) (by rw [List.getElem?_append_left hlt]; exact hk) (by rw [List.getElem?_append_right (Nat.le_refl _), Nat.sub_self]; rfl) he
    omega
  have hD2 : va_D (lx_A s) (gi_ws K2 h2 fsX2 []) := by
    refine ⟨fun i j x y hi hj _ => ?_, fun k q hk => hD5.2 (ws1.length + k) q (by rw [List.getElem?_append_right (Nat.le_add_right _ _), Nat.add_sub_cancel_left]; exact hk)⟩
    have h8 : i < 1 := (List.getElem?_eq_some_iff.mp hi).1
    have h9 : j < 1 := (List.getElem?_eq_some_iff.mp hj).1
    omega
  refine W.widen (k := 17) (n := 586) (by omega) (by omega) ?_
  refine lv_dup hx hb dL_law_21 rfl ?_
  refine lx_cell (k := 0) hL C0 (by omega) dL_law_22 dL_law_23 (by decide) dL_law_24 ⟨by omega, by omega⟩ (lv_at hl 1 rfl) hl.1 (by exact Nat.le_of_ble_eq_true rfl) hS (fun H6 locs6 hz6 hk6 hS => ?_)
  have hP1 := hP1.kept (H1 := H6) (fun k q hk => hk6 q.1 (hP1 k q hk).lt)
  have hP2 := hP2.kept (H1 := H6) (fun k q hk => hk6 q.1 (hP2 k q hk).lt)
  refine lx_cell (k := 1) hL C0 (by omega) dL_law_27 dL_law_28 (by decide) dL_law_29 ⟨by omega, by omega⟩ (lv_at hl 1 rfl) hl.1 (by exact Nat.le_of_ble_eq_true rfl) hS (fun H7 locs7 hz7 hk7 hS => ?_)
  have hP1 := hP1.kept (H1 := H7) (fun k q hk => hk7 q.1 (hP1 k q hk).lt)
  have hP2 := hP2.kept (H1 := H7) (fun k q hk => hk7 q.1 (hP2 k q hk).lt)
  have hF2 : ∀ q, va_A (gi_ws K2 h2 fsX2 []) H7.size q → (lx_A s) q := by
    intro q hq
    rcases hq with ⟨k, e', hq⟩ | hq
    · exact hD2.2 k _ hq
    · exact Nat.le_trans hS.1 hq
  have hno : ∀ (k : Nat) (q : Nat × va_E), ws1[k]? = some q → ¬ va_A (gi_ws K2 h2 fsX2 []) H7.size q.1 := by
    intro k q hk hq
    rcases hq with ⟨k', e', hq⟩ | hq
    · have h9 : k' < 1 := (List.getElem?_eq_some_iff.mp hq).1
      have h8 : k' = 0 := by omega
      subst h8
      cases hq
      exact hne k q hk rfl
    · exact absurd (hP1 k q hk).lt (Nat.not_lt.mpr hq)
  refine va_callv (va_runI (As := [.int (lx_xc L xs 0), .int (lx_xc L xs 1)]) (rest := [.ref h2]) ⟨hx, hb, hml, hown, hts⟩ (cm_init (a := lx_xc L xs 0) (b := lx_xc L xs 1) l D h2 H7.size) (cwI 2 hts (lw_meth q219) rfl rfl rfl (hts _ q18) (hts _ q217) (hts _ q218) rfl ⟨by decide, by decide, by decide +kernel⟩ ⟨Nat.le_of_ble_eq_true rfl, Nat.le_of_ble_eq_true rfl⟩) ⟨fun a U g mk q => by obtain ⟨q0, q1, qP, qK, qD⟩ := q; exact ⟨q0, q1, qP, va_K.moved (u := U) (U := U.calling g mk a) (Vm.Alike.refl U.vm) qK, qD⟩, fun U hU hW => ⟨rfl, by rw [hU], by rw [hU]; exact hP2, va_K.moved hW.alike hK, hD2.weaken (fun _ _ _ _ => trivial)⟩⟩ rfl rfl hl.1 rfl (lv_room (Nat.le_of_ble_eq_true rfl)) dL_law_32 ⟨Nat.le_of_ble_eq_true rfl, Nat.le_of_ble_eq_true rfl⟩) hS (fun q _ h => hF2 q h) hF2 (fun u t H8 locs8 ht hvm hw hB hz8 hk8 hS => ?_)
  have hP1 := hP1.kept (H1 := H8) (fun k q hk => hk8 q.1 (hP1 k q hk).lt (hno k q hk))
  obtain ⟨ad2, cA2, f2, a2⟩ := u
  obtain ⟨hP3, hK2, hD3⟩ := hB
  have hw : (f2, a2) = (fiX2 (lx_xc L xs 0) (lx_xc L xs 1), fun _ _ => 0) := hw
  cases hw
  rw [ht] at hP3
  have hK2 : va_K D vwCl (mr_tys K2 cA2) s := va_K.moved hvm.symm hK2
  have hD4 : va_D (lx_A s) (mr_ws K2 h2 ad2 cA2 (fiX2 (lx_xc L xs 0) (lx_xc L xs 1)) (fun _ _ => 0)) := hD3.weaken (fun k q _ h => hF2 q.1 h)
  subst hws
  have hap : lx_ap h1 h2 ad1 ad2 cA1 cA2 := by
    intro fi ar fj br i j x y hi hj he
    obtain ⟨x0, e1, e2⟩ := mr_adr (fi := fiX1 (lx_xc L xs 0) (lx_xc L xs 1)) (ar := fun _ _ => 0) i x hi
    obtain ⟨y0, e3, e4⟩ := mr_adr (fi := fiX2 (lx_xc L xs 0) (lx_xc L xs 1)) (ar := fun _ _ => 0) j y hj
    refine hno i x0 e1 ?_
    rw [e2, he, ← e4]
    exact hD3.2 j y0 e3
  refine W.widen (k := 23) (n := 758) (by omega) (by omega) ?_
  refine lv_astore_n (lv' := [(2, .ref h2), (1, .ref h1), (0, .ref b)]) hx hb dL_law_35 rfl hl (by decide) rfl (fun ls hl => ?_)
  refine lv_iconst (v := nI 2) hx hb dL_law_36 (by decide) ?_
  refine lv_istore_n (lv' := [(3, .int (nI 2)), (2, .ref h2), (1, .ref h1), (0, .ref b)]) hx hb dL_law_37 rfl hl (by decide) rfl (fun ls hl => ?_)
  have hG : lx_Cl h1 h2 L xs (lx_G h1 h2 ad1 ad2 cA1 cA2 p l e s m b below meth c D) := ⟨p, l, e, s, m, b, below, meth, c, D, ad1, ad2, cA1, cA2, C0, hL, hK1, hK2, fun fi ar => mr_D_any hD1, fun fi ar => mr_D_any hD4, hap, rfl⟩
  exact lx_loop hG hL L 2 _ _ _ _ (by omega) (by omega) (inv_new (lx_xc L xs 0) (lx_xc L xs 1)) ls H8 locs8 (lv_sub hl [3, 2, 1, 0] rfl) hP1 hP3 hS
end
section
set_option maxRecDepth 100000
set_option linter.unusedVariables false
-- ===== YOUR PART ENDS =====
set_option maxHeartbeats 4000000 in
theorem lw_walk (l : Launch) (b : Addr) (xs : List Int32) : MetFree l x (headSpec (Jvm.Cond.code x code maxLocals ret :: tables_1) room_1) (lw_P b xs) (fun _ _ _ _ _ => True) lw_Q := by
  refine MetFree.of_bodyS (code := code) (maxLocals := maxLocals) (ret := ret) (by decide) ?_ ?_
  · intro args s m h hn
    obtain ⟨meth, c, h1, h2, h3, h4, h5, h6, -, -⟩ := Cond.code_spec hn (atoms_spec (ws := Jvm.Cond.code x code maxLocals ret :: tables_1) h _ List.mem_cons_self)
    exact ⟨meth, c, h1, h2, h3, h4, h5, h6⟩
  · intro p e s m args below meth c s₁ B hml0 hP _
    obtain ⟨rfl, hx, hbd, hgv⟩ := hP
    obtain ⟨scr, harrAt, hlist, hof, hsmall⟩ := hx
    obtain ⟨hcb, hkn, -, -⟩ := State.arrayAt?_spec harrAt
    have hown : s.vm.findClass R_law = some m.cls := findClass_of_methodNamed B.named
    have hts0 : ∀ c ∈ (Jvm.Cond.code x code maxLocals ret :: tables_1), c.before #[Value.ref b] s = true := atoms_spec (ws := Jvm.Cond.code x code maxLocals ret :: tables_1) B.pre
    have hts : ∀ w ∈ lw_tbl, w.before #[Value.ref b] s = true := k2_hts_sels lw_privs (fun w hw => hts0 w (List.mem_cons_of_mem _ hw)) lw_privs_ok
    have hml : c.maxLocals = 4 := B.maxLocals_eq (hts0 _ List.mem_cons_self)
    have X₀ : Stand p l e room_1 s m #[Value.ref b] below meth c s₁ [] 0 0 := Stand.of_body B
    have hh0 : s₁.heap = s.heap := by rw [B.state]; rfl
    have hsz : scr.slots.size = xs.length := by rw [← Array.length_toList, hlist, List.length_map]
    have hval : ∀ j : Nat, j < xs.length → scr.slots[j]? = some (.int (xs.getD j 0)) := fun j hj => by
      rw [← Array.getElem?_toList, hlist]
      simp [hj]
    have hbl : b < s.heap.size := (Array.getElem?_eq_some_iff.mp hcb).1
    have hX : va_X b xs.length (fun j => xs.getD j 0) s s.heap := ⟨scr, hcb, hof, hkn, hsz, hval⟩
    have K : W p l e room_1 s m #[Value.ref b] below meth c s₁.heap [] 0 0 (lw_Z below #[Value.ref b] s) (entryFrame m ([Value.ref b] : List Value).toArray 4) := by
      rw [hh0]
      exact whole_start l hbd ⟨B.exec, B.bytes, B.returns, hml, hown, hts, hX, hbl, B.notSynchronized, hgv⟩
    obtain ⟨t, a1, o, b1, b2, b3⟩ := K s₁ rfl X₀
    exact ⟨t, o, a1, b1, b2, b3⟩
theorem lw_pre_spec {args : Array Value} {s : State} (h : (Jvm.Cond.and given_1 narrow_1).before args s = true) (hr : rest_1_c.before args s = true) : ∃ (b : Addr) (xs : List Int32), lw_P b xs args s := by
  have hs := flat_of_before _ h
  have hq := flat_of_before _ hr
  have hc : (Cond.count 1).before args s = true := hs _ (by decide +kernel)
  have harr : (Cond.arrayOf (.arg 0) .int).before args s = true := hs _ (by decide +kernel)
  have hle : (Cond.le (.length (.arg 0)) (.int 258)).before args s = true := hs _ (by decide +kernel)
  have hlen : (Cond.isInt (.length (.arg 0))).before args s = true := hq _ (by decide +kernel)
  have hall : (Cond.all (.arg 0) (.isInt (.elem (.arg 0) (.index 0)))).before args s = true := hq _ (by decide +kernel)
  obtain ⟨b, xs, hb, hx⟩ := State.ints_of_pre rfl harr hlen hall
  have hsm : xs.length < 2 ^ 31 := hx.choose_spec.2.2.2
  have hev : (Term.length (.arg 0)).eval args s none [] s = some (.int xs.length.toInt32) := hx.length_eval hb
  have hv := Cond.le_ints hev (show (Term.int 258).eval args s none [] s = some (.int 258) from rfl)
  have hd : xs.length.toInt32 ≤ 258 := by
    simpa [Cond.before, Cond.holds, hv] using hle
  have hN : xs.length ≤ 258 := (Int32.ofNat_le_ofNat hsm (by decide)).mp (show Int32.ofNat xs.length ≤ Int32.ofNat 258 from hd)
  exact ⟨b, xs, Cond.one_arg hc (show args[0]? = some (.ref b) from hb), hx, hN, h⟩
theorem lw_comes (l : Launch) : Comes l x (Jvm.Cond.code x code maxLocals ret :: tables_1) room_1 (fun tb e args s => Calls_1 tb e args s ∧ rest_1 tb e args s ∧ Pre_1 tb e args s)
    (fun _ _ args s o t => lw_Q args s o t) := by
  intro p e ha hc hk s m args below hf hfit hheap happ hpre
  obtain ⟨b, xs, hP⟩ := lw_pre_spec hpre.2.2 hpre.2.1
  obtain ⟨k, o, h1, h2, h3, hQ⟩ := lw_walk l b xs p e ha hc hk s m args below hf ((Spec.applies_iff_loose hf).mp happ).1 hP trivial
  exact ⟨k, o, h1, h2, h3, hQ⟩
theorem lw_frame {s t : State} {o : Outcome} {args : Array Value} (h : Framed s o t [] 600000 7290000) :
    Framed s o t (fieldLocs frame_1_writes args s ++ arrayLocs frame_1_arrays args s ++ staticLocs frame_1_statics s) 600000 7290000 := h
theorem lw_limb (L : Cond) (hL : ∀ (args : Array Value) (s t : State), L.after args s (.returned (some (.int 1))) t = true) :
    ArmFor flags0 classFile x code maxLocals ret World_1 tables_1 room_1 Calls_1 rest_1 Pre_1
      (fun tb e a s o t => postC L tb e a s o t ∧ Framed s o t (fieldLocs frame_1_writes a s ++ arrayLocs frame_1_arrays a s ++ staticLocs frame_1_statics s) 600000 7290000) := by
  intro l _ _ _ p e ha hc hk s m args below hf hfit hheap happ hpre
  obtain ⟨k, o, h1, h2, h3, rfl, hF⟩ := lw_comes l p e ha hc hk s m args below hf hfit hheap happ hpre
  exact ⟨k, _, h1, h2, h3, hL args s _, lw_frame hF⟩
theorem i_vc : Claimed_1_1 ∧ Claimed_1_2 := ⟨lw_limb limb_1_1 (fun args s t => by simp [limb_1_1, Cond.after, Cond.holds, Cond.value]), lw_limb limb_1_2 (fun args s t => Cond.after_iff.mpr (by
  first | (rw [show limb_1_2 = Cond.eq .result (.int 1) from rfl, Cond.eq_ints (x := 1) (y := 1) rfl rfl]; simp; done) | (simp [limb_1_2, Cond.value, Term.eval]; done)))⟩
end
