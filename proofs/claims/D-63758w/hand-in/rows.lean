section
-- ===== PART A: goes FIRST, ahead of the names: the tables' words, and 'selects' of the private methods out of them =====
/-- a private method of a class that the tables say can be made, by its rows of tables_1 -/
def lw_okq (q : MethodName × Nat) : Prop := (q.1.cls ≠ "java/lang/invoke/MethodHandle" ∧ q.1.cls ≠ "java/lang/invoke/VarHandle") ∧ Cond.instantiable q.1.cls q.2 ∈ tables_1 ∧ Cond.privateMethod q.1 ∈ tables_1 ∧ Cond.instanceMethod q.1 ∈ tables_1
set_option maxRecDepth 100000
theorem lw_t1 {w : Cond} (h : w ∈ tables_1_1) : w ∈ tables_1 := List.mem_append_left _ h
theorem lw_t2 {w : Cond} (h : w ∈ tables_1_2) : w ∈ tables_1 := List.mem_append_right _ h
theorem lw_p0 : lw_okq (⟨"SandpileLab", "isPlace", "(I)Z"⟩, 10) := ⟨⟨by decide +kernel, by decide +kernel⟩, lw_t1 (List.mem_of_getElem? (i := 4) rfl), lw_t1 (List.mem_of_getElem? (i := 49) rfl), lw_t1 (List.mem_of_getElem? (i := 50) rfl)⟩
theorem lw_p1 : lw_okq (⟨"SandpileLab", "changeGraph", "()V"⟩, 10) := ⟨⟨by decide +kernel, by decide +kernel⟩, lw_t1 (List.mem_of_getElem? (i := 4) rfl), lw_t1 (List.mem_of_getElem? (i := 53) rfl), lw_t1 (List.mem_of_getElem? (i := 54) rfl)⟩
theorem lw_p2 : lw_okq (⟨"SandpileLab", "load", "(I)V"⟩, 10) := ⟨⟨by decide +kernel, by decide +kernel⟩, lw_t1 (List.mem_of_getElem? (i := 4) rfl), lw_t1 (List.mem_of_getElem? (i := 65) rfl), lw_t1 (List.mem_of_getElem? (i := 66) rfl)⟩
theorem lw_p3 : lw_okq (⟨"SandpileLab", "digit", "(II)I"⟩, 10) := ⟨⟨by decide +kernel, by decide +kernel⟩, lw_t1 (List.mem_of_getElem? (i := 4) rfl), lw_t1 (List.mem_of_getElem? (i := 69) rfl), lw_t1 (List.mem_of_getElem? (i := 70) rfl)⟩
theorem lw_p4 : lw_okq (⟨"SandpileLab", "settle", "()V"⟩, 10) := ⟨⟨by decide +kernel, by decide +kernel⟩, lw_t1 (List.mem_of_getElem? (i := 4) rfl), lw_t1 (List.mem_of_getElem? (i := 73) rfl), lw_t1 (List.mem_of_getElem? (i := 74) rfl)⟩
theorem lw_p5 : lw_okq (⟨"SandpileLab", "packed", "()I"⟩, 10) := ⟨⟨by decide +kernel, by decide +kernel⟩, lw_t1 (List.mem_of_getElem? (i := 4) rfl), lw_t1 (List.mem_of_getElem? (i := 77) rfl), lw_t1 (List.mem_of_getElem? (i := 78) rfl)⟩
theorem lw_p6 : lw_okq (⟨"SandpileLab", "isStable", "(I)Z"⟩, 10) := ⟨⟨by decide +kernel, by decide +kernel⟩, lw_t1 (List.mem_of_getElem? (i := 4) rfl), lw_t1 (List.mem_of_getElem? (i := 89) rfl), lw_t1 (List.mem_of_getElem? (i := 90) rfl)⟩
theorem lw_p7 : lw_okq (⟨"SandpileLab", "burns", "(I)Z"⟩, 10) := ⟨⟨by decide +kernel, by decide +kernel⟩, lw_t1 (List.mem_of_getElem? (i := 4) rfl), lw_t1 (List.mem_of_getElem? (i := 101) rfl), lw_t1 (List.mem_of_getElem? (i := 102) rfl)⟩
theorem lw_p8 : lw_okq (⟨"SandpileLab", "learn", "()V"⟩, 10) := ⟨⟨by decide +kernel, by decide +kernel⟩, lw_t1 (List.mem_of_getElem? (i := 4) rfl), lw_t1 (List.mem_of_getElem? (i := 109) rfl), lw_t1 (List.mem_of_getElem? (i := 110) rfl)⟩
theorem lw_p9 : lw_okq (⟨"SandpileLab", "determinant", "()I"⟩, 10) := ⟨⟨by decide +kernel, by decide +kernel⟩, lw_t1 (List.mem_of_getElem? (i := 4) rfl), lw_t1 (List.mem_of_getElem? (i := 113) rfl), lw_t1 (List.mem_of_getElem? (i := 114) rfl)⟩
theorem lw_p10 : lw_okq (⟨"SandpileLab", "reduce", "(III)V"⟩, 10) := ⟨⟨by decide +kernel, by decide +kernel⟩, lw_t1 (List.mem_of_getElem? (i := 4) rfl), lw_t1 (List.mem_of_getElem? (i := 117) rfl), lw_t1 (List.mem_of_getElem? (i := 118) rfl)⟩
theorem lw_p11 : lw_okq (⟨"SandpileLab", "settledMultiple", "(I)I"⟩, 10) := ⟨⟨by decide +kernel, by decide +kernel⟩, lw_t1 (List.mem_of_getElem? (i := 4) rfl), lw_t1 (List.mem_of_getElem? (i := 121) rfl), lw_t1 (List.mem_of_getElem? (i := 122) rfl)⟩
theorem lw_p12 : lw_okq (⟨"SandpileLab", "added", "(II)I"⟩, 10) := ⟨⟨by decide +kernel, by decide +kernel⟩, lw_t1 (List.mem_of_getElem? (i := 4) rfl), lw_t1 (List.mem_of_getElem? (i := 138) rfl), lw_t1 (List.mem_of_getElem? (i := 139) rfl)⟩
theorem lw_p13 : lw_okq (⟨"SandpileLab", "timesState", "(II)I"⟩, 10) := ⟨⟨by decide +kernel, by decide +kernel⟩, lw_t1 (List.mem_of_getElem? (i := 4) rfl), lw_t1 (List.mem_of_getElem? (i := 146) rfl), lw_t1 (List.mem_of_getElem? (i := 147) rfl)⟩
theorem lw_p14 : lw_okq (⟨"SandpileLabModel", "isPlace", "(I)Z"⟩, 7) := ⟨⟨by decide +kernel, by decide +kernel⟩, lw_t1 (List.mem_of_getElem? (i := 154) rfl), lw_t1 (List.mem_of_getElem? (i := 187) rfl), lw_t1 (List.mem_of_getElem? (i := 188) rfl)⟩
theorem lw_p15 : lw_okq (⟨"SandpileLabModel", "vanish", "()V"⟩, 7) := ⟨⟨by decide +kernel, by decide +kernel⟩, lw_t1 (List.mem_of_getElem? (i := 154) rfl), lw_t1 (List.mem_of_getElem? (i := 191) rfl), lw_t1 (List.mem_of_getElem? (i := 192) rfl)⟩
def lw_privs_1 : List (MethodName × Nat) := [(⟨"SandpileLab", "isPlace", "(I)Z"⟩, 10), (⟨"SandpileLab", "changeGraph", "()V"⟩, 10), (⟨"SandpileLab", "load", "(I)V"⟩, 10), (⟨"SandpileLab", "digit", "(II)I"⟩, 10), (⟨"SandpileLab", "settle", "()V"⟩, 10), (⟨"SandpileLab", "packed", "()I"⟩, 10), (⟨"SandpileLab", "isStable", "(I)Z"⟩, 10), (⟨"SandpileLab", "burns", "(I)Z"⟩, 10), (⟨"SandpileLab", "learn", "()V"⟩, 10), (⟨"SandpileLab", "determinant", "()I"⟩, 10), (⟨"SandpileLab", "reduce", "(III)V"⟩, 10), (⟨"SandpileLab", "settledMultiple", "(I)I"⟩, 10), (⟨"SandpileLab", "added", "(II)I"⟩, 10), (⟨"SandpileLab", "timesState", "(II)I"⟩, 10), (⟨"SandpileLabModel", "isPlace", "(I)Z"⟩, 7), (⟨"SandpileLabModel", "vanish", "()V"⟩, 7)]
theorem lw_r1 : ∀ q ∈ lw_privs_1, lw_okq q := List.forall_mem_cons.mpr ⟨lw_p0, List.forall_mem_cons.mpr ⟨lw_p1, List.forall_mem_cons.mpr ⟨lw_p2, List.forall_mem_cons.mpr ⟨lw_p3, List.forall_mem_cons.mpr ⟨lw_p4, List.forall_mem_cons.mpr ⟨lw_p5, List.forall_mem_cons.mpr ⟨lw_p6, List.forall_mem_cons.mpr ⟨lw_p7, List.forall_mem_cons.mpr ⟨lw_p8, List.forall_mem_cons.mpr ⟨lw_p9, List.forall_mem_cons.mpr ⟨lw_p10, List.forall_mem_cons.mpr ⟨lw_p11, List.forall_mem_cons.mpr ⟨lw_p12, List.forall_mem_cons.mpr ⟨lw_p13, List.forall_mem_cons.mpr ⟨lw_p14, List.forall_mem_cons.mpr ⟨lw_p15, fun _ h => absurd h List.not_mem_nil⟩⟩⟩⟩⟩⟩⟩⟩⟩⟩⟩⟩⟩⟩⟩⟩
theorem lw_p16 : lw_okq (⟨"SandpileLabModel", "settle", "()V"⟩, 7) := ⟨⟨by decide +kernel, by decide +kernel⟩, lw_t1 (List.mem_of_getElem? (i := 154) rfl), lw_t1 (List.mem_of_getElem? (i := 203) rfl), lw_t1 (List.mem_of_getElem? (i := 204) rfl)⟩
theorem lw_p17 : lw_okq (⟨"SandpileLabModel", "degreeOf", "(I)I"⟩, 7) := ⟨⟨by decide +kernel, by decide +kernel⟩, lw_t1 (List.mem_of_getElem? (i := 154) rfl), lw_t1 (List.mem_of_getElem? (i := 207) rfl), lw_t1 (List.mem_of_getElem? (i := 208) rfl)⟩
theorem lw_p18 : lw_okq (⟨"SandpileLabModel", "in", "(II)Z"⟩, 7) := ⟨⟨by decide +kernel, by decide +kernel⟩, lw_t1 (List.mem_of_getElem? (i := 154) rfl), lw_t1 (List.mem_of_getElem? (i := 211) rfl), lw_t1 (List.mem_of_getElem? (i := 212) rfl)⟩
theorem lw_p19 : lw_okq (⟨"SandpileLabModel", "topple", "(I)V"⟩, 7) := ⟨⟨by decide +kernel, by decide +kernel⟩, lw_t1 (List.mem_of_getElem? (i := 154) rfl), lw_t1 (List.mem_of_getElem? (i := 215) rfl), lw_t1 (List.mem_of_getElem? (i := 216) rfl)⟩
theorem lw_p20 : lw_okq (⟨"SandpileLabModel", "isStable", "(I)Z"⟩, 7) := ⟨⟨by decide +kernel, by decide +kernel⟩, lw_t1 (List.mem_of_getElem? (i := 154) rfl), lw_t1 (List.mem_of_getElem? (i := 227) rfl), lw_t1 (List.mem_of_getElem? (i := 228) rfl)⟩
theorem lw_p21 : lw_okq (⟨"SandpileLabModel", "digit", "(II)I"⟩, 7) := ⟨⟨by decide +kernel, by decide +kernel⟩, lw_t1 (List.mem_of_getElem? (i := 154) rfl), lw_t1 (List.mem_of_getElem? (i := 231) rfl), lw_t1 (List.mem_of_getElem? (i := 232) rfl)⟩
theorem lw_p22 : lw_okq (⟨"SandpileLabModel", "isRecurrent", "(I)Z"⟩, 7) := ⟨⟨by decide +kernel, by decide +kernel⟩, lw_t1 (List.mem_of_getElem? (i := 154) rfl), lw_t2 (List.mem_of_getElem? (i := 3) rfl), lw_t2 (List.mem_of_getElem? (i := 4) rfl)⟩
theorem lw_p23 : lw_okq (⟨"SandpileLabModel", "findRecurrent", "()V"⟩, 7) := ⟨⟨by decide +kernel, by decide +kernel⟩, lw_t1 (List.mem_of_getElem? (i := 154) rfl), lw_t2 (List.mem_of_getElem? (i := 7) rfl), lw_t2 (List.mem_of_getElem? (i := 8) rfl)⟩
theorem lw_p24 : lw_okq (⟨"SandpileLabModel", "full", "()I"⟩, 7) := ⟨⟨by decide +kernel, by decide +kernel⟩, lw_t1 (List.mem_of_getElem? (i := 154) rfl), lw_t2 (List.mem_of_getElem? (i := 11) rfl), lw_t2 (List.mem_of_getElem? (i := 12) rfl)⟩
theorem lw_p25 : lw_okq (⟨"SandpileLabModel", "written", "()I"⟩, 7) := ⟨⟨by decide +kernel, by decide +kernel⟩, lw_t1 (List.mem_of_getElem? (i := 154) rfl), lw_t2 (List.mem_of_getElem? (i := 15) rfl), lw_t2 (List.mem_of_getElem? (i := 16) rfl)⟩
theorem lw_p26 : lw_okq (⟨"SandpileLabModel", "spread", "()Z"⟩, 7) := ⟨⟨by decide +kernel, by decide +kernel⟩, lw_t1 (List.mem_of_getElem? (i := 154) rfl), lw_t2 (List.mem_of_getElem? (i := 19) rfl), lw_t2 (List.mem_of_getElem? (i := 20) rfl)⟩
theorem lw_p27 : lw_okq (⟨"SandpileLabModel", "sum", "(II)I"⟩, 7) := ⟨⟨by decide +kernel, by decide +kernel⟩, lw_t1 (List.mem_of_getElem? (i := 154) rfl), lw_t2 (List.mem_of_getElem? (i := 23) rfl), lw_t2 (List.mem_of_getElem? (i := 24) rfl)⟩
theorem lw_p28 : lw_okq (⟨"SandpileLabModel", "neutralState", "()I"⟩, 7) := ⟨⟨by decide +kernel, by decide +kernel⟩, lw_t1 (List.mem_of_getElem? (i := 154) rfl), lw_t2 (List.mem_of_getElem? (i := 35) rfl), lw_t2 (List.mem_of_getElem? (i := 36) rfl)⟩
def lw_privs_2 : List (MethodName × Nat) := [(⟨"SandpileLabModel", "settle", "()V"⟩, 7), (⟨"SandpileLabModel", "degreeOf", "(I)I"⟩, 7), (⟨"SandpileLabModel", "in", "(II)Z"⟩, 7), (⟨"SandpileLabModel", "topple", "(I)V"⟩, 7), (⟨"SandpileLabModel", "isStable", "(I)Z"⟩, 7), (⟨"SandpileLabModel", "digit", "(II)I"⟩, 7), (⟨"SandpileLabModel", "isRecurrent", "(I)Z"⟩, 7), (⟨"SandpileLabModel", "findRecurrent", "()V"⟩, 7), (⟨"SandpileLabModel", "full", "()I"⟩, 7), (⟨"SandpileLabModel", "written", "()I"⟩, 7), (⟨"SandpileLabModel", "spread", "()Z"⟩, 7), (⟨"SandpileLabModel", "sum", "(II)I"⟩, 7), (⟨"SandpileLabModel", "neutralState", "()I"⟩, 7)]
theorem lw_r2 : ∀ q ∈ lw_privs_2, lw_okq q := List.forall_mem_cons.mpr ⟨lw_p16, List.forall_mem_cons.mpr ⟨lw_p17, List.forall_mem_cons.mpr ⟨lw_p18, List.forall_mem_cons.mpr ⟨lw_p19, List.forall_mem_cons.mpr ⟨lw_p20, List.forall_mem_cons.mpr ⟨lw_p21, List.forall_mem_cons.mpr ⟨lw_p22, List.forall_mem_cons.mpr ⟨lw_p23, List.forall_mem_cons.mpr ⟨lw_p24, List.forall_mem_cons.mpr ⟨lw_p25, List.forall_mem_cons.mpr ⟨lw_p26, List.forall_mem_cons.mpr ⟨lw_p27, List.forall_mem_cons.mpr ⟨lw_p28, fun _ h => absurd h List.not_mem_nil⟩⟩⟩⟩⟩⟩⟩⟩⟩⟩⟩⟩⟩
def lw_privs : List (MethodName × Nat) := lw_privs_1 ++ (lw_privs_2)
def lw_tbl : List Cond := k2_sels lw_privs ++ tables_1
theorem lw_privs_ok : ∀ q ∈ lw_privs, lw_okq q := by
  show ∀ q ∈ lw_privs_1 ++ (lw_privs_2), lw_okq q
  exact List.forall_mem_append.mpr ⟨lw_r1, lw_r2⟩
-- ===== ONE list of words for every method: the tables' words that hold all through a run =====
def lw_all : List Cond := lw_tbl.filter goodWord
/-- a word of the tables by its place: claim/WORDS.tsv -/
theorem lw_w {w : Cond} (i : Nat) (h : lw_tbl[i]? = some w) (g : goodWord w = true) : w ∈ lw_all := List.mem_filter.mpr ⟨List.mem_of_getElem? h, g⟩
theorem lw_all_tbl {w : Cond} (h : w ∈ lw_all) : w ∈ lw_tbl := (List.mem_filter.mp h).1
theorem lw_self : GoodIn lw_all lw_all := fun w h => ⟨h, good_of_word (List.mem_filter.mp h).2⟩
/-- a class's field words, by their places -/
theorem lw_in (ws : List Cond) (ps : List Nat) (hp : ws = ps.filterMap (fun i => lw_tbl[i]?)) (hg : ws.all goodWord = true) : ∀ w ∈ ws, w ∈ lw_all := by
  intro w h
  have h1 := List.all_eq_true.mp hg w h
  rw [hp] at h
  obtain ⟨i, -, hi⟩ := List.mem_filterMap.mp h
  exact lw_w i hi h1
/-- the words of a contract for the method y with code b, L locals, answer r -/
abbrev ws_ (y : MethodName) (b : ByteArray) (L : Nat) (r : Option FieldType) : List Cond := Cond.code y b L r :: lw_all
theorem lw_meth {y : MethodName} {b : ByteArray} {L : Nat} {r : Option FieldType} (h : Cond.code y b L r ∈ lw_all) : GoodIn lw_all (ws_ y b L r) := by
  intro w hw
  rcases List.mem_cons.mp hw with e | e
  · rw [e]
    exact lw_self _ h
  · exact lw_self _ e
theorem lw_app {a c : List Cond} (ha : ∀ w ∈ a, w ∈ lw_all) (hc : GoodIn lw_all c) : GoodIn lw_all (a ++ c) := by
  intro w hw
  rcases List.mem_append.mp hw with e | e
  · exact lw_self w (ha w e)
  · exact hc w e
/-- what a call through an object asks: cwV n hts (lw_V ..) -/
theorem lw_V {own : String} {idx : Nat} {C : String} {y : MethodName} {b : ByteArray} {L : Nat} {r : Option FieldType} (h1 : Cond.methodLink own idx y ∈ lw_all) (h2 : Cond.instanceMethod y ∈ lw_all) (h3 : Cond.selects C y y ∈ lw_all) (h4 : Cond.initialized C ∈ lw_all) (h5 : Cond.code y b L r ∈ lw_all) : GoodIn lw_all (wsV own idx C y (ws_ y b L r)) := by
  refine lw_app ?_ (lw_meth h5)
  intro w hw
  simp only [List.mem_cons, List.not_mem_nil, or_false] at hw
  rcases hw with e | e | e | e
  · rw [e]; exact h1
  · rw [e]; exact h2
  · rw [e]; exact h3
  · rw [e]; exact h4
/-- what a static call asks: va_cwS n hts (lw_S ..) -/
theorem lw_S {own : String} {idx : Nat} {y : MethodName} {b : ByteArray} {L : Nat} {r : Option FieldType} (h1 : Cond.methodLink own idx y ∈ lw_all) (h2 : Cond.static y ∈ lw_all) (h3 : Cond.initialized y.cls ∈ lw_all) (h4 : Cond.code y b L r ∈ lw_all) : GoodIn lw_all (va_wsS own idx y (ws_ y b L r)) := by
  refine lw_app ?_ (lw_meth h4)
  intro w hw
  simp only [List.mem_cons, List.not_mem_nil, or_false] at hw
  rcases hw with e | e | e
  · rw [e]; exact h1
  · rw [e]; exact h2
  · rw [e]; exact h3
/-- the words of a contract for a method WITH HANDLERS (hh: its table) -/
abbrev wsW_ (y : MethodName) (b : ByteArray) (L : Nat) (r : Option FieldType) (hh : List (Nat × Nat × Nat × Nat)) : List Cond := Cond.codeWith y b L r hh :: lw_all
theorem lw_methW {y : MethodName} {b : ByteArray} {L : Nat} {r : Option FieldType} {hh : List (Nat × Nat × Nat × Nat)} (h : Cond.codeWith y b L r hh ∈ lw_all) : GoodIn lw_all (wsW_ y b L r hh) := by
  intro w hw
  rcases List.mem_cons.mp hw with e | e
  · rw [e]
    exact lw_self _ h
  · exact lw_self _ e
/-- any list of words by their places (lw_in), good -/
theorem lw_good {ws : List Cond} (h : ∀ w ∈ ws, w ∈ lw_all) : GoodIn lw_all ws := fun w hw => lw_self w (h w hw)
/-- what a call of a method with handlers asks: vx_cwVW n hts (lw_VW ..), vx_cwSW n hts (lw_SW ..) -/
theorem lw_VW {own : String} {idx : Nat} {C : String} {y : MethodName} {b : ByteArray} {L : Nat} {r : Option FieldType} {hh : List (Nat × Nat × Nat × Nat)} (h1 : Cond.methodLink own idx y ∈ lw_all) (h2 : Cond.instanceMethod y ∈ lw_all) (h3 : Cond.selects C y y ∈ lw_all) (h4 : Cond.initialized C ∈ lw_all) (h5 : Cond.codeWith y b L r hh ∈ lw_all) : GoodIn lw_all (wsV own idx C y (wsW_ y b L r hh)) := by
  refine lw_app ?_ (lw_methW h5)
  intro w hw
  simp only [List.mem_cons, List.not_mem_nil, or_false] at hw
  rcases hw with e | e | e | e
  · rw [e]; exact h1
  · rw [e]; exact h2
  · rw [e]; exact h3
  · rw [e]; exact h4
theorem lw_SW {own : String} {idx : Nat} {y : MethodName} {b : ByteArray} {L : Nat} {r : Option FieldType} {hh : List (Nat × Nat × Nat × Nat)} (h1 : Cond.methodLink own idx y ∈ lw_all) (h2 : Cond.static y ∈ lw_all) (h3 : Cond.initialized y.cls ∈ lw_all) (h4 : Cond.codeWith y b L r hh ∈ lw_all) : GoodIn lw_all (va_wsS own idx y (wsW_ y b L r hh)) := by
  refine lw_app ?_ (lw_methW h4)
  intro w hw
  simp only [List.mem_cons, List.not_mem_nil, or_false] at hw
  rcases hw with e | e | e
  · rw [e]; exact h1
  · rw [e]; exact h2
  · rw [e]; exact h3
/-- a word by its place in its run of the tables -/
theorem lw_at {r : List Cond} (hr : ∀ w ∈ r, w ∈ lw_tbl) {w : Cond} (i : Nat) (h : r[i]? = some w) : w ∈ lw_tbl := hr w (List.mem_of_getElem? h)
theorem lw_g {w : Cond} (h : w ∈ lw_tbl) (g : goodWord w = true) : w ∈ lw_all := List.mem_filter.mpr ⟨h, g⟩
theorem lw_ms : ∀ w ∈ k2_sels lw_privs, w ∈ lw_tbl := fun w h => show w ∈ k2_sels lw_privs ++ tables_1 from List.mem_append_left _ h
theorem lw_m1 : ∀ w ∈ tables_1_1, w ∈ lw_tbl := fun w h => show w ∈ k2_sels lw_privs ++ tables_1 from List.mem_append_right (k2_sels lw_privs) (show w ∈ tables_1 from List.mem_append_left _ h)
theorem lw_m2 : ∀ w ∈ tables_1_2, w ∈ lw_tbl := fun w h => show w ∈ k2_sels lw_privs ++ tables_1 from List.mem_append_right (k2_sels lw_privs) (show w ∈ tables_1 from List.mem_append_right _ h)
theorem qs0 : (Cond.selects "SandpileLab" ⟨"SandpileLab", "isPlace", "(I)Z"⟩ ⟨"SandpileLab", "isPlace", "(I)Z"⟩) ∈ lw_all := lw_g (lw_at lw_ms 0 rfl) rfl
theorem qs1 : (Cond.selects "SandpileLab" ⟨"SandpileLab", "changeGraph", "()V"⟩ ⟨"SandpileLab", "changeGraph", "()V"⟩) ∈ lw_all := lw_g (lw_at lw_ms 1 rfl) rfl
theorem qs2 : (Cond.selects "SandpileLab" ⟨"SandpileLab", "load", "(I)V"⟩ ⟨"SandpileLab", "load", "(I)V"⟩) ∈ lw_all := lw_g (lw_at lw_ms 2 rfl) rfl
theorem qs3 : (Cond.selects "SandpileLab" ⟨"SandpileLab", "digit", "(II)I"⟩ ⟨"SandpileLab", "digit", "(II)I"⟩) ∈ lw_all := lw_g (lw_at lw_ms 3 rfl) rfl
theorem qs4 : (Cond.selects "SandpileLab" ⟨"SandpileLab", "settle", "()V"⟩ ⟨"SandpileLab", "settle", "()V"⟩) ∈ lw_all := lw_g (lw_at lw_ms 4 rfl) rfl
theorem qs5 : (Cond.selects "SandpileLab" ⟨"SandpileLab", "packed", "()I"⟩ ⟨"SandpileLab", "packed", "()I"⟩) ∈ lw_all := lw_g (lw_at lw_ms 5 rfl) rfl
theorem qs6 : (Cond.selects "SandpileLab" ⟨"SandpileLab", "isStable", "(I)Z"⟩ ⟨"SandpileLab", "isStable", "(I)Z"⟩) ∈ lw_all := lw_g (lw_at lw_ms 6 rfl) rfl
theorem qs7 : (Cond.selects "SandpileLab" ⟨"SandpileLab", "burns", "(I)Z"⟩ ⟨"SandpileLab", "burns", "(I)Z"⟩) ∈ lw_all := lw_g (lw_at lw_ms 7 rfl) rfl
theorem qs8 : (Cond.selects "SandpileLab" ⟨"SandpileLab", "learn", "()V"⟩ ⟨"SandpileLab", "learn", "()V"⟩) ∈ lw_all := lw_g (lw_at lw_ms 8 rfl) rfl
theorem qs9 : (Cond.selects "SandpileLab" ⟨"SandpileLab", "determinant", "()I"⟩ ⟨"SandpileLab", "determinant", "()I"⟩) ∈ lw_all := lw_g (lw_at lw_ms 9 rfl) rfl
theorem qs10 : (Cond.selects "SandpileLab" ⟨"SandpileLab", "reduce", "(III)V"⟩ ⟨"SandpileLab", "reduce", "(III)V"⟩) ∈ lw_all := lw_g (lw_at lw_ms 10 rfl) rfl
theorem qs11 : (Cond.selects "SandpileLab" ⟨"SandpileLab", "settledMultiple", "(I)I"⟩ ⟨"SandpileLab", "settledMultiple", "(I)I"⟩) ∈ lw_all := lw_g (lw_at lw_ms 11 rfl) rfl
theorem qs12 : (Cond.selects "SandpileLab" ⟨"SandpileLab", "added", "(II)I"⟩ ⟨"SandpileLab", "added", "(II)I"⟩) ∈ lw_all := lw_g (lw_at lw_ms 12 rfl) rfl
theorem qs13 : (Cond.selects "SandpileLab" ⟨"SandpileLab", "timesState", "(II)I"⟩ ⟨"SandpileLab", "timesState", "(II)I"⟩) ∈ lw_all := lw_g (lw_at lw_ms 13 rfl) rfl
theorem qs14 : (Cond.selects "SandpileLabModel" ⟨"SandpileLabModel", "isPlace", "(I)Z"⟩ ⟨"SandpileLabModel", "isPlace", "(I)Z"⟩) ∈ lw_all := lw_g (lw_at lw_ms 14 rfl) rfl
theorem qs15 : (Cond.selects "SandpileLabModel" ⟨"SandpileLabModel", "vanish", "()V"⟩ ⟨"SandpileLabModel", "vanish", "()V"⟩) ∈ lw_all := lw_g (lw_at lw_ms 15 rfl) rfl
theorem qs16 : (Cond.selects "SandpileLabModel" ⟨"SandpileLabModel", "settle", "()V"⟩ ⟨"SandpileLabModel", "settle", "()V"⟩) ∈ lw_all := lw_g (lw_at lw_ms 16 rfl) rfl
theorem qs17 : (Cond.selects "SandpileLabModel" ⟨"SandpileLabModel", "degreeOf", "(I)I"⟩ ⟨"SandpileLabModel", "degreeOf", "(I)I"⟩) ∈ lw_all := lw_g (lw_at lw_ms 17 rfl) rfl
theorem qs18 : (Cond.selects "SandpileLabModel" ⟨"SandpileLabModel", "in", "(II)Z"⟩ ⟨"SandpileLabModel", "in", "(II)Z"⟩) ∈ lw_all := lw_g (lw_at lw_ms 18 rfl) rfl
theorem qs19 : (Cond.selects "SandpileLabModel" ⟨"SandpileLabModel", "topple", "(I)V"⟩ ⟨"SandpileLabModel", "topple", "(I)V"⟩) ∈ lw_all := lw_g (lw_at lw_ms 19 rfl) rfl
theorem qs20 : (Cond.selects "SandpileLabModel" ⟨"SandpileLabModel", "isStable", "(I)Z"⟩ ⟨"SandpileLabModel", "isStable", "(I)Z"⟩) ∈ lw_all := lw_g (lw_at lw_ms 20 rfl) rfl
theorem qs21 : (Cond.selects "SandpileLabModel" ⟨"SandpileLabModel", "digit", "(II)I"⟩ ⟨"SandpileLabModel", "digit", "(II)I"⟩) ∈ lw_all := lw_g (lw_at lw_ms 21 rfl) rfl
theorem qs22 : (Cond.selects "SandpileLabModel" ⟨"SandpileLabModel", "isRecurrent", "(I)Z"⟩ ⟨"SandpileLabModel", "isRecurrent", "(I)Z"⟩) ∈ lw_all := lw_g (lw_at lw_ms 22 rfl) rfl
theorem qs23 : (Cond.selects "SandpileLabModel" ⟨"SandpileLabModel", "findRecurrent", "()V"⟩ ⟨"SandpileLabModel", "findRecurrent", "()V"⟩) ∈ lw_all := lw_g (lw_at lw_ms 23 rfl) rfl
theorem qs24 : (Cond.selects "SandpileLabModel" ⟨"SandpileLabModel", "full", "()I"⟩ ⟨"SandpileLabModel", "full", "()I"⟩) ∈ lw_all := lw_g (lw_at lw_ms 24 rfl) rfl
theorem qs25 : (Cond.selects "SandpileLabModel" ⟨"SandpileLabModel", "written", "()I"⟩ ⟨"SandpileLabModel", "written", "()I"⟩) ∈ lw_all := lw_g (lw_at lw_ms 25 rfl) rfl
theorem qs26 : (Cond.selects "SandpileLabModel" ⟨"SandpileLabModel", "spread", "()Z"⟩ ⟨"SandpileLabModel", "spread", "()Z"⟩) ∈ lw_all := lw_g (lw_at lw_ms 26 rfl) rfl
theorem qs27 : (Cond.selects "SandpileLabModel" ⟨"SandpileLabModel", "sum", "(II)I"⟩ ⟨"SandpileLabModel", "sum", "(II)I"⟩) ∈ lw_all := lw_g (lw_at lw_ms 27 rfl) rfl
theorem qs28 : (Cond.selects "SandpileLabModel" ⟨"SandpileLabModel", "neutralState", "()I"⟩ ⟨"SandpileLabModel", "neutralState", "()I"⟩) ∈ lw_all := lw_g (lw_at lw_ms 28 rfl) rfl
end
section
/-! SandpileLab -/
set_option maxRecDepth 100000
def RX0 : String := "SandpileLab"
def TX0 : u_T := fun k => match k with
  | 0 => ("SandpileLab", "neighbours", "[B", true)
  | 1 => ("SandpileLab", "toSink", "[B", true)
  | 2 => ("SandpileLab", "degrees", "[B", true)
  | 3 => ("SandpileLab", "grains", "[I", true)
  | 4 => ("SandpileLab", "kept", "I", false)
  | 5 => ("SandpileLab", "topplings", "I", false)
  | 6 => ("SandpileLab", "known", "Z", false)
  | 7 => ("SandpileLab", "groupOrder", "I", false)
  | 8 => ("SandpileLab", "neutralState", "I", false)
  | _ => ("SandpileLab", "matrix", "[I", true)
def tyX0 : Nat → FieldType := fun k => match k with
  | 0 => .array .byte
  | 1 => .array .byte
  | 2 => .array .byte
  | 3 => .array .int
  | 4 => .int
  | 5 => .int
  | 6 => .boolean
  | 7 => .int
  | 8 => .int
  | _ => .array .int
abbrev wsX00 : List Cond := u_ws RX0 TX0 10
theorem nmX0 : ∀ a, a < 10 → ∀ b, b < 10 → a ≠ b → (TX0 a).2.1 ≠ (TX0 b).2.1 := by decide +kernel
theorem tyX0_ok : ∀ k, k < 10 → parseFieldDescriptor (TX0 k).2.2.1 = some (tyX0 k) := by decide +kernel
abbrev cX0_init : ByteArray := prog_1_method_1_code
def yX0_init : MethodName := ⟨RX0, "<init>", "()V"⟩
theorem dX0_init_0 : decode cX0_init 0 = .ok (.aload_n 0, 1) := by decide +kernel
theorem dX0_init_1 : decode cX0_init 1 = .ok (.invokespecial 1, 3) := by decide +kernel
theorem dX0_init_4 : decode cX0_init 4 = .ok (.aload_n 0, 1) := by decide +kernel
theorem dX0_init_5 : decode cX0_init 5 = .ok (.iconst 4, 1) := by decide +kernel
theorem dX0_init_6 : decode cX0_init 6 = .ok (.newarray .byte, 2) := by decide +kernel
theorem dX0_init_8 : decode cX0_init 8 = .ok (.putfield 7, 3) := by decide +kernel
theorem dX0_init_11 : decode cX0_init 11 = .ok (.aload_n 0, 1) := by decide +kernel
theorem dX0_init_12 : decode cX0_init 12 = .ok (.iconst 4, 1) := by decide +kernel
theorem dX0_init_13 : decode cX0_init 13 = .ok (.newarray .byte, 2) := by decide +kernel
theorem dX0_init_15 : decode cX0_init 15 = .ok (.putfield 13, 3) := by decide +kernel
theorem dX0_init_18 : decode cX0_init 18 = .ok (.aload_n 0, 1) := by decide +kernel
theorem dX0_init_19 : decode cX0_init 19 = .ok (.iconst 4, 1) := by decide +kernel
theorem dX0_init_20 : decode cX0_init 20 = .ok (.newarray .byte, 2) := by decide +kernel
theorem dX0_init_22 : decode cX0_init 22 = .ok (.putfield 16, 3) := by decide +kernel
theorem dX0_init_25 : decode cX0_init 25 = .ok (.aload_n 0, 1) := by decide +kernel
theorem dX0_init_26 : decode cX0_init 26 = .ok (.iconst 4, 1) := by decide +kernel
theorem dX0_init_27 : decode cX0_init 27 = .ok (.newarray .int, 2) := by decide +kernel
theorem dX0_init_29 : decode cX0_init 29 = .ok (.putfield 19, 3) := by decide +kernel
theorem dX0_init_32 : decode cX0_init 32 = .ok (.aload_n 0, 1) := by decide +kernel
theorem dX0_init_33 : decode cX0_init 33 = .ok (.bipush 16, 2) := by decide +kernel
theorem dX0_init_35 : decode cX0_init 35 = .ok (.newarray .int, 2) := by decide +kernel
theorem dX0_init_37 : decode cX0_init 37 = .ok (.putfield 23, 3) := by decide +kernel
theorem dX0_init_40 : decode cX0_init 40 = .ok (.iconst 0, 1) := by decide +kernel
theorem dX0_init_41 : decode cX0_init 41 = .ok (.istore_n 1, 1) := by decide +kernel
theorem dX0_init_42 : decode cX0_init 42 = .ok (.iload_n 1, 1) := by decide +kernel
theorem dX0_init_43 : decode cX0_init 43 = .ok (.iconst 4, 1) := by decide +kernel
theorem dX0_init_44 : decode cX0_init 44 = .ok (.if_icmp .ge 23, 3) := by decide +kernel
theorem dX0_init_47 : decode cX0_init 47 = .ok (.aload_n 0, 1) := by decide +kernel
theorem dX0_init_48 : decode cX0_init 48 = .ok (.getfield 13, 3) := by decide +kernel
theorem dX0_init_51 : decode cX0_init 51 = .ok (.iload_n 1, 1) := by decide +kernel
theorem dX0_init_52 : decode cX0_init 52 = .ok (.iconst 1, 1) := by decide +kernel
theorem dX0_init_53 : decode cX0_init 53 = .ok (.bastore, 1) := by decide +kernel
theorem dX0_init_54 : decode cX0_init 54 = .ok (.aload_n 0, 1) := by decide +kernel
theorem dX0_init_55 : decode cX0_init 55 = .ok (.getfield 16, 3) := by decide +kernel
theorem dX0_init_58 : decode cX0_init 58 = .ok (.iload_n 1, 1) := by decide +kernel
theorem dX0_init_59 : decode cX0_init 59 = .ok (.iconst 1, 1) := by decide +kernel
theorem dX0_init_60 : decode cX0_init 60 = .ok (.bastore, 1) := by decide +kernel
theorem dX0_init_61 : decode cX0_init 61 = .ok (.iinc 1 1, 3) := by decide +kernel
theorem dX0_init_64 : decode cX0_init 64 = .ok (.goto (-22), 3) := by decide +kernel
theorem dX0_init_67 : decode cX0_init 67 = .ok (.return_, 1) := by decide +kernel
abbrev cX0_edge : ByteArray := prog_1_method_2_code
def yX0_edge : MethodName := ⟨RX0, "edge", "(IIZ)Z"⟩
theorem dX0_edge_0 : decode cX0_edge 0 = .ok (.aload_n 0, 1) := by decide +kernel
theorem dX0_edge_1 : decode cX0_edge 1 = .ok (.iload_n 1, 1) := by decide +kernel
theorem dX0_edge_2 : decode cX0_edge 2 = .ok (.invokevirtual 26, 3) := by decide +kernel
theorem dX0_edge_5 : decode cX0_edge 5 = .ok (.ifCond .eq 16, 3) := by decide +kernel
theorem dX0_edge_8 : decode cX0_edge 8 = .ok (.aload_n 0, 1) := by decide +kernel
theorem dX0_edge_9 : decode cX0_edge 9 = .ok (.iload_n 2, 1) := by decide +kernel
theorem dX0_edge_10 : decode cX0_edge 10 = .ok (.invokevirtual 26, 3) := by decide +kernel
theorem dX0_edge_13 : decode cX0_edge 13 = .ok (.ifCond .eq 8, 3) := by decide +kernel
theorem dX0_edge_16 : decode cX0_edge 16 = .ok (.iload_n 1, 1) := by decide +kernel
theorem dX0_edge_17 : decode cX0_edge 17 = .ok (.iload_n 2, 1) := by decide +kernel
theorem dX0_edge_18 : decode cX0_edge 18 = .ok (.if_icmp .ne 5, 3) := by decide +kernel
theorem dX0_edge_21 : decode cX0_edge 21 = .ok (.iconst 0, 1) := by decide +kernel
theorem dX0_edge_22 : decode cX0_edge 22 = .ok (.ireturn, 1) := by decide +kernel
theorem dX0_edge_23 : decode cX0_edge 23 = .ok (.iload_n 3, 1) := by decide +kernel
theorem dX0_edge_24 : decode cX0_edge 24 = .ok (.ifCond .eq 32, 3) := by decide +kernel
theorem dX0_edge_27 : decode cX0_edge 27 = .ok (.aload_n 0, 1) := by decide +kernel
theorem dX0_edge_28 : decode cX0_edge 28 = .ok (.getfield 7, 3) := by decide +kernel
theorem dX0_edge_31 : decode cX0_edge 31 = .ok (.iload_n 1, 1) := by decide +kernel
theorem dX0_edge_32 : decode cX0_edge 32 = .ok (.dup2, 1) := by decide +kernel
theorem dX0_edge_33 : decode cX0_edge 33 = .ok (.baload, 1) := by decide +kernel
theorem dX0_edge_34 : decode cX0_edge 34 = .ok (.iconst 1, 1) := by decide +kernel
theorem dX0_edge_35 : decode cX0_edge 35 = .ok (.iload_n 2, 1) := by decide +kernel
theorem dX0_edge_36 : decode cX0_edge 36 = .ok (.ishl, 1) := by decide +kernel
theorem dX0_edge_37 : decode cX0_edge 37 = .ok (.ior, 1) := by decide +kernel
theorem dX0_edge_38 : decode cX0_edge 38 = .ok (.i2b, 1) := by decide +kernel
theorem dX0_edge_39 : decode cX0_edge 39 = .ok (.bastore, 1) := by decide +kernel
theorem dX0_edge_40 : decode cX0_edge 40 = .ok (.aload_n 0, 1) := by decide +kernel
theorem dX0_edge_41 : decode cX0_edge 41 = .ok (.getfield 7, 3) := by decide +kernel
theorem dX0_edge_44 : decode cX0_edge 44 = .ok (.iload_n 2, 1) := by decide +kernel
theorem dX0_edge_45 : decode cX0_edge 45 = .ok (.dup2, 1) := by decide +kernel
theorem dX0_edge_46 : decode cX0_edge 46 = .ok (.baload, 1) := by decide +kernel
theorem dX0_edge_47 : decode cX0_edge 47 = .ok (.iconst 1, 1) := by decide +kernel
theorem dX0_edge_48 : decode cX0_edge 48 = .ok (.iload_n 1, 1) := by decide +kernel
theorem dX0_edge_49 : decode cX0_edge 49 = .ok (.ishl, 1) := by decide +kernel
theorem dX0_edge_50 : decode cX0_edge 50 = .ok (.ior, 1) := by decide +kernel
theorem dX0_edge_51 : decode cX0_edge 51 = .ok (.i2b, 1) := by decide +kernel
theorem dX0_edge_52 : decode cX0_edge 52 = .ok (.bastore, 1) := by decide +kernel
theorem dX0_edge_53 : decode cX0_edge 53 = .ok (.goto 33, 3) := by decide +kernel
theorem dX0_edge_56 : decode cX0_edge 56 = .ok (.aload_n 0, 1) := by decide +kernel
theorem dX0_edge_57 : decode cX0_edge 57 = .ok (.getfield 7, 3) := by decide +kernel
theorem dX0_edge_60 : decode cX0_edge 60 = .ok (.iload_n 1, 1) := by decide +kernel
theorem dX0_edge_61 : decode cX0_edge 61 = .ok (.dup2, 1) := by decide +kernel
theorem dX0_edge_62 : decode cX0_edge 62 = .ok (.baload, 1) := by decide +kernel
theorem dX0_edge_63 : decode cX0_edge 63 = .ok (.iconst 1, 1) := by decide +kernel
theorem dX0_edge_64 : decode cX0_edge 64 = .ok (.iload_n 2, 1) := by decide +kernel
theorem dX0_edge_65 : decode cX0_edge 65 = .ok (.ishl, 1) := by decide +kernel
theorem dX0_edge_66 : decode cX0_edge 66 = .ok (.iconst (-1), 1) := by decide +kernel
theorem dX0_edge_67 : decode cX0_edge 67 = .ok (.ixor, 1) := by decide +kernel
theorem dX0_edge_68 : decode cX0_edge 68 = .ok (.iand, 1) := by decide +kernel
theorem dX0_edge_69 : decode cX0_edge 69 = .ok (.i2b, 1) := by decide +kernel
theorem dX0_edge_70 : decode cX0_edge 70 = .ok (.bastore, 1) := by decide +kernel
theorem dX0_edge_71 : decode cX0_edge 71 = .ok (.aload_n 0, 1) := by decide +kernel
theorem dX0_edge_72 : decode cX0_edge 72 = .ok (.getfield 7, 3) := by decide +kernel
theorem dX0_edge_75 : decode cX0_edge 75 = .ok (.iload_n 2, 1) := by decide +kernel
theorem dX0_edge_76 : decode cX0_edge 76 = .ok (.dup2, 1) := by decide +kernel
theorem dX0_edge_77 : decode cX0_edge 77 = .ok (.baload, 1) := by decide +kernel
theorem dX0_edge_78 : decode cX0_edge 78 = .ok (.iconst 1, 1) := by decide +kernel
theorem dX0_edge_79 : decode cX0_edge 79 = .ok (.iload_n 1, 1) := by decide +kernel
theorem dX0_edge_80 : decode cX0_edge 80 = .ok (.ishl, 1) := by decide +kernel
theorem dX0_edge_81 : decode cX0_edge 81 = .ok (.iconst (-1), 1) := by decide +kernel
theorem dX0_edge_82 : decode cX0_edge 82 = .ok (.ixor, 1) := by decide +kernel
theorem dX0_edge_83 : decode cX0_edge 83 = .ok (.iand, 1) := by decide +kernel
theorem dX0_edge_84 : decode cX0_edge 84 = .ok (.i2b, 1) := by decide +kernel
theorem dX0_edge_85 : decode cX0_edge 85 = .ok (.bastore, 1) := by decide +kernel
theorem dX0_edge_86 : decode cX0_edge 86 = .ok (.aload_n 0, 1) := by decide +kernel
theorem dX0_edge_87 : decode cX0_edge 87 = .ok (.invokevirtual 30, 3) := by decide +kernel
theorem dX0_edge_90 : decode cX0_edge 90 = .ok (.iconst 1, 1) := by decide +kernel
theorem dX0_edge_91 : decode cX0_edge 91 = .ok (.ireturn, 1) := by decide +kernel
abbrev cX0_isPlace : ByteArray := prog_1_method_5_code
def yX0_isPlace : MethodName := ⟨RX0, "isPlace", "(I)Z"⟩
theorem dX0_isPlace_0 : decode cX0_isPlace 0 = .ok (.iload_n 1, 1) := by decide +kernel
theorem dX0_isPlace_1 : decode cX0_isPlace 1 = .ok (.ifCond .lt 12, 3) := by decide +kernel
theorem dX0_isPlace_4 : decode cX0_isPlace 4 = .ok (.iload_n 1, 1) := by decide +kernel
theorem dX0_isPlace_5 : decode cX0_isPlace 5 = .ok (.iconst 4, 1) := by decide +kernel
theorem dX0_isPlace_6 : decode cX0_isPlace 6 = .ok (.if_icmp .ge 7, 3) := by decide +kernel
theorem dX0_isPlace_9 : decode cX0_isPlace 9 = .ok (.iconst 1, 1) := by decide +kernel
theorem dX0_isPlace_10 : decode cX0_isPlace 10 = .ok (.goto 4, 3) := by decide +kernel
theorem dX0_isPlace_13 : decode cX0_isPlace 13 = .ok (.iconst 0, 1) := by decide +kernel
theorem dX0_isPlace_14 : decode cX0_isPlace 14 = .ok (.ireturn, 1) := by decide +kernel
abbrev cX0_changeGraph : ByteArray := prog_1_method_4_code
def yX0_changeGraph : MethodName := ⟨RX0, "changeGraph", "()V"⟩
theorem dX0_changeGraph_0 : decode cX0_changeGraph 0 = .ok (.aload_n 0, 1) := by decide +kernel
theorem dX0_changeGraph_1 : decode cX0_changeGraph 1 = .ok (.iconst 0, 1) := by decide +kernel
theorem dX0_changeGraph_2 : decode cX0_changeGraph 2 = .ok (.putfield 33, 3) := by decide +kernel
theorem dX0_changeGraph_5 : decode cX0_changeGraph 5 = .ok (.aload_n 0, 1) := by decide +kernel
theorem dX0_changeGraph_6 : decode cX0_changeGraph 6 = .ok (.iconst 0, 1) := by decide +kernel
theorem dX0_changeGraph_7 : decode cX0_changeGraph 7 = .ok (.putfield 37, 3) := by decide +kernel
theorem dX0_changeGraph_10 : decode cX0_changeGraph 10 = .ok (.iconst 0, 1) := by decide +kernel
theorem dX0_changeGraph_11 : decode cX0_changeGraph 11 = .ok (.istore_n 1, 1) := by decide +kernel
theorem dX0_changeGraph_12 : decode cX0_changeGraph 12 = .ok (.iload_n 1, 1) := by decide +kernel
theorem dX0_changeGraph_13 : decode cX0_changeGraph 13 = .ok (.iconst 4, 1) := by decide +kernel
theorem dX0_changeGraph_14 : decode cX0_changeGraph 14 = .ok (.if_icmp .ge 50, 3) := by decide +kernel
theorem dX0_changeGraph_17 : decode cX0_changeGraph 17 = .ok (.aload_n 0, 1) := by decide +kernel
theorem dX0_changeGraph_18 : decode cX0_changeGraph 18 = .ok (.getfield 13, 3) := by decide +kernel
theorem dX0_changeGraph_21 : decode cX0_changeGraph 21 = .ok (.iload_n 1, 1) := by decide +kernel
theorem dX0_changeGraph_22 : decode cX0_changeGraph 22 = .ok (.baload, 1) := by decide +kernel
theorem dX0_changeGraph_23 : decode cX0_changeGraph 23 = .ok (.istore_n 2, 1) := by decide +kernel
theorem dX0_changeGraph_24 : decode cX0_changeGraph 24 = .ok (.iconst 0, 1) := by decide +kernel
theorem dX0_changeGraph_25 : decode cX0_changeGraph 25 = .ok (.istore_n 3, 1) := by decide +kernel
theorem dX0_changeGraph_26 : decode cX0_changeGraph 26 = .ok (.iload_n 3, 1) := by decide +kernel
theorem dX0_changeGraph_27 : decode cX0_changeGraph 27 = .ok (.iconst 4, 1) := by decide +kernel
theorem dX0_changeGraph_28 : decode cX0_changeGraph 28 = .ok (.if_icmp .ge 22, 3) := by decide +kernel
theorem dX0_changeGraph_31 : decode cX0_changeGraph 31 = .ok (.iload_n 2, 1) := by decide +kernel
theorem dX0_changeGraph_32 : decode cX0_changeGraph 32 = .ok (.aload_n 0, 1) := by decide +kernel
theorem dX0_changeGraph_33 : decode cX0_changeGraph 33 = .ok (.getfield 7, 3) := by decide +kernel
theorem dX0_changeGraph_36 : decode cX0_changeGraph 36 = .ok (.iload_n 1, 1) := by decide +kernel
theorem dX0_changeGraph_37 : decode cX0_changeGraph 37 = .ok (.baload, 1) := by decide +kernel
theorem dX0_changeGraph_38 : decode cX0_changeGraph 38 = .ok (.iload_n 3, 1) := by decide +kernel
theorem dX0_changeGraph_39 : decode cX0_changeGraph 39 = .ok (.ishr, 1) := by decide +kernel
theorem dX0_changeGraph_40 : decode cX0_changeGraph 40 = .ok (.iconst 1, 1) := by decide +kernel
theorem dX0_changeGraph_41 : decode cX0_changeGraph 41 = .ok (.iand, 1) := by decide +kernel
theorem dX0_changeGraph_42 : decode cX0_changeGraph 42 = .ok (.iadd, 1) := by decide +kernel
theorem dX0_changeGraph_43 : decode cX0_changeGraph 43 = .ok (.istore_n 2, 1) := by decide +kernel
theorem dX0_changeGraph_44 : decode cX0_changeGraph 44 = .ok (.iinc 3 1, 3) := by decide +kernel
theorem dX0_changeGraph_47 : decode cX0_changeGraph 47 = .ok (.goto (-21), 3) := by decide +kernel
theorem dX0_changeGraph_50 : decode cX0_changeGraph 50 = .ok (.aload_n 0, 1) := by decide +kernel
theorem dX0_changeGraph_51 : decode cX0_changeGraph 51 = .ok (.getfield 16, 3) := by decide +kernel
theorem dX0_changeGraph_54 : decode cX0_changeGraph 54 = .ok (.iload_n 1, 1) := by decide +kernel
theorem dX0_changeGraph_55 : decode cX0_changeGraph 55 = .ok (.iload_n 2, 1) := by decide +kernel
theorem dX0_changeGraph_56 : decode cX0_changeGraph 56 = .ok (.i2b, 1) := by decide +kernel
theorem dX0_changeGraph_57 : decode cX0_changeGraph 57 = .ok (.bastore, 1) := by decide +kernel
theorem dX0_changeGraph_58 : decode cX0_changeGraph 58 = .ok (.iinc 1 1, 3) := by decide +kernel
theorem dX0_changeGraph_61 : decode cX0_changeGraph 61 = .ok (.goto (-49), 3) := by decide +kernel
theorem dX0_changeGraph_64 : decode cX0_changeGraph 64 = .ok (.return_, 1) := by decide +kernel
abbrev cX0_sink : ByteArray := prog_1_method_3_code
def yX0_sink : MethodName := ⟨RX0, "sink", "(II)Z"⟩
theorem dX0_sink_0 : decode cX0_sink 0 = .ok (.aload_n 0, 1) := by decide +kernel
theorem dX0_sink_1 : decode cX0_sink 1 = .ok (.iload_n 1, 1) := by decide +kernel
theorem dX0_sink_2 : decode cX0_sink 2 = .ok (.invokevirtual 26, 3) := by decide +kernel
theorem dX0_sink_5 : decode cX0_sink 5 = .ok (.ifCond .eq 13, 3) := by decide +kernel
theorem dX0_sink_8 : decode cX0_sink 8 = .ok (.iload_n 2, 1) := by decide +kernel
theorem dX0_sink_9 : decode cX0_sink 9 = .ok (.iconst 1, 1) := by decide +kernel
theorem dX0_sink_10 : decode cX0_sink 10 = .ok (.if_icmp .lt 8, 3) := by decide +kernel
theorem dX0_sink_13 : decode cX0_sink 13 = .ok (.iload_n 2, 1) := by decide +kernel
theorem dX0_sink_14 : decode cX0_sink 14 = .ok (.iconst 2, 1) := by decide +kernel
theorem dX0_sink_15 : decode cX0_sink 15 = .ok (.if_icmp .le 5, 3) := by decide +kernel
theorem dX0_sink_18 : decode cX0_sink 18 = .ok (.iconst 0, 1) := by decide +kernel
theorem dX0_sink_19 : decode cX0_sink 19 = .ok (.ireturn, 1) := by decide +kernel
theorem dX0_sink_20 : decode cX0_sink 20 = .ok (.aload_n 0, 1) := by decide +kernel
theorem dX0_sink_21 : decode cX0_sink 21 = .ok (.getfield 13, 3) := by decide +kernel
theorem dX0_sink_24 : decode cX0_sink 24 = .ok (.iload_n 1, 1) := by decide +kernel
theorem dX0_sink_25 : decode cX0_sink 25 = .ok (.iload_n 2, 1) := by decide +kernel
theorem dX0_sink_26 : decode cX0_sink 26 = .ok (.i2b, 1) := by decide +kernel
theorem dX0_sink_27 : decode cX0_sink 27 = .ok (.bastore, 1) := by decide +kernel
theorem dX0_sink_28 : decode cX0_sink 28 = .ok (.aload_n 0, 1) := by decide +kernel
theorem dX0_sink_29 : decode cX0_sink 29 = .ok (.invokevirtual 30, 3) := by decide +kernel
theorem dX0_sink_32 : decode cX0_sink 32 = .ok (.iconst 1, 1) := by decide +kernel
theorem dX0_sink_33 : decode cX0_sink 33 = .ok (.ireturn, 1) := by decide +kernel
abbrev cX0_drop : ByteArray := prog_1_method_6_code
def yX0_drop : MethodName := ⟨RX0, "drop", "(II)I"⟩
theorem dX0_drop_0 : decode cX0_drop 0 = .ok (.aload_n 0, 1) := by decide +kernel
theorem dX0_drop_1 : decode cX0_drop 1 = .ok (.iload_n 1, 1) := by decide +kernel
theorem dX0_drop_2 : decode cX0_drop 2 = .ok (.invokevirtual 26, 3) := by decide +kernel
theorem dX0_drop_5 : decode cX0_drop 5 = .ok (.ifCond .eq 14, 3) := by decide +kernel
theorem dX0_drop_8 : decode cX0_drop 8 = .ok (.iload_n 2, 1) := by decide +kernel
theorem dX0_drop_9 : decode cX0_drop 9 = .ok (.ifCond .lt 10, 3) := by decide +kernel
theorem dX0_drop_12 : decode cX0_drop 12 = .ok (.iload_n 2, 1) := by decide +kernel
theorem dX0_drop_13 : decode cX0_drop 13 = .ok (.sipush 1000, 3) := by decide +kernel
theorem dX0_drop_16 : decode cX0_drop 16 = .ok (.if_icmp .le 5, 3) := by decide +kernel
theorem dX0_drop_19 : decode cX0_drop 19 = .ok (.iconst (-1), 1) := by decide +kernel
theorem dX0_drop_20 : decode cX0_drop 20 = .ok (.ireturn, 1) := by decide +kernel
theorem dX0_drop_21 : decode cX0_drop 21 = .ok (.aload_n 0, 1) := by decide +kernel
theorem dX0_drop_22 : decode cX0_drop 22 = .ok (.aload_n 0, 1) := by decide +kernel
theorem dX0_drop_23 : decode cX0_drop 23 = .ok (.getfield 33, 3) := by decide +kernel
theorem dX0_drop_26 : decode cX0_drop 26 = .ok (.invokevirtual 41, 3) := by decide +kernel
theorem dX0_drop_29 : decode cX0_drop 29 = .ok (.aload_n 0, 1) := by decide +kernel
theorem dX0_drop_30 : decode cX0_drop 30 = .ok (.getfield 19, 3) := by decide +kernel
theorem dX0_drop_33 : decode cX0_drop 33 = .ok (.iload_n 1, 1) := by decide +kernel
theorem dX0_drop_34 : decode cX0_drop 34 = .ok (.dup2, 1) := by decide +kernel
theorem dX0_drop_35 : decode cX0_drop 35 = .ok (.iaload, 1) := by decide +kernel
theorem dX0_drop_36 : decode cX0_drop 36 = .ok (.iload_n 2, 1) := by decide +kernel
theorem dX0_drop_37 : decode cX0_drop 37 = .ok (.iadd, 1) := by decide +kernel
theorem dX0_drop_38 : decode cX0_drop 38 = .ok (.iastore, 1) := by decide +kernel
theorem dX0_drop_39 : decode cX0_drop 39 = .ok (.aload_n 0, 1) := by decide +kernel
theorem dX0_drop_40 : decode cX0_drop 40 = .ok (.invokevirtual 45, 3) := by decide +kernel
theorem dX0_drop_43 : decode cX0_drop 43 = .ok (.aload_n 0, 1) := by decide +kernel
theorem dX0_drop_44 : decode cX0_drop 44 = .ok (.aload_n 0, 1) := by decide +kernel
theorem dX0_drop_45 : decode cX0_drop 45 = .ok (.invokevirtual 48, 3) := by decide +kernel
theorem dX0_drop_48 : decode cX0_drop 48 = .ok (.putfield 33, 3) := by decide +kernel
theorem dX0_drop_51 : decode cX0_drop 51 = .ok (.aload_n 0, 1) := by decide +kernel
theorem dX0_drop_52 : decode cX0_drop 52 = .ok (.getfield 52, 3) := by decide +kernel
theorem dX0_drop_55 : decode cX0_drop 55 = .ok (.ireturn, 1) := by decide +kernel
abbrev cX0_load : ByteArray := prog_1_method_12_code
def yX0_load : MethodName := ⟨RX0, "load", "(I)V"⟩
theorem dX0_load_0 : decode cX0_load 0 = .ok (.iconst 0, 1) := by decide +kernel
theorem dX0_load_1 : decode cX0_load 1 = .ok (.istore_n 2, 1) := by decide +kernel
theorem dX0_load_2 : decode cX0_load 2 = .ok (.iload_n 2, 1) := by decide +kernel
theorem dX0_load_3 : decode cX0_load 3 = .ok (.iconst 4, 1) := by decide +kernel
theorem dX0_load_4 : decode cX0_load 4 = .ok (.if_icmp .ge 21, 3) := by decide +kernel
theorem dX0_load_7 : decode cX0_load 7 = .ok (.aload_n 0, 1) := by decide +kernel
theorem dX0_load_8 : decode cX0_load 8 = .ok (.getfield 19, 3) := by decide +kernel
theorem dX0_load_11 : decode cX0_load 11 = .ok (.iload_n 2, 1) := by decide +kernel
theorem dX0_load_12 : decode cX0_load 12 = .ok (.aload_n 0, 1) := by decide +kernel
theorem dX0_load_13 : decode cX0_load 13 = .ok (.iload_n 1, 1) := by decide +kernel
theorem dX0_load_14 : decode cX0_load 14 = .ok (.iload_n 2, 1) := by decide +kernel
theorem dX0_load_15 : decode cX0_load 15 = .ok (.invokevirtual 58, 3) := by decide +kernel
theorem dX0_load_18 : decode cX0_load 18 = .ok (.iastore, 1) := by decide +kernel
theorem dX0_load_19 : decode cX0_load 19 = .ok (.iinc 2 1, 3) := by decide +kernel
theorem dX0_load_22 : decode cX0_load 22 = .ok (.goto (-20), 3) := by decide +kernel
theorem dX0_load_25 : decode cX0_load 25 = .ok (.return_, 1) := by decide +kernel
abbrev cX0_digit : ByteArray := prog_1_method_10_code
def yX0_digit : MethodName := ⟨RX0, "digit", "(II)I"⟩
theorem dX0_digit_0 : decode cX0_digit 0 = .ok (.iload_n 1, 1) := by decide +kernel
theorem dX0_digit_1 : decode cX0_digit 1 = .ok (.bipush 9, 2) := by decide +kernel
theorem dX0_digit_3 : decode cX0_digit 3 = .ok (.iconst 3, 1) := by decide +kernel
theorem dX0_digit_4 : decode cX0_digit 4 = .ok (.iload_n 2, 1) := by decide +kernel
theorem dX0_digit_5 : decode cX0_digit 5 = .ok (.imul, 1) := by decide +kernel
theorem dX0_digit_6 : decode cX0_digit 6 = .ok (.isub, 1) := by decide +kernel
theorem dX0_digit_7 : decode cX0_digit 7 = .ok (.ishr, 1) := by decide +kernel
theorem dX0_digit_8 : decode cX0_digit 8 = .ok (.bipush 7, 2) := by decide +kernel
theorem dX0_digit_10 : decode cX0_digit 10 = .ok (.iand, 1) := by decide +kernel
theorem dX0_digit_11 : decode cX0_digit 11 = .ok (.ireturn, 1) := by decide +kernel
abbrev cX0_settle : ByteArray := prog_1_method_14_code
def yX0_settle : MethodName := ⟨RX0, "settle", "()V"⟩
theorem dX0_settle_0 : decode cX0_settle 0 = .ok (.aload_n 0, 1) := by decide +kernel
theorem dX0_settle_1 : decode cX0_settle 1 = .ok (.iconst 0, 1) := by decide +kernel
theorem dX0_settle_2 : decode cX0_settle 2 = .ok (.putfield 52, 3) := by decide +kernel
theorem dX0_settle_5 : decode cX0_settle 5 = .ok (.iconst 1, 1) := by decide +kernel
theorem dX0_settle_6 : decode cX0_settle 6 = .ok (.istore_n 1, 1) := by decide +kernel
theorem dX0_settle_7 : decode cX0_settle 7 = .ok (.iload_n 1, 1) := by decide +kernel
theorem dX0_settle_8 : decode cX0_settle 8 = .ok (.ifCond .eq 111, 3) := by decide +kernel
theorem dX0_settle_11 : decode cX0_settle 11 = .ok (.iconst 0, 1) := by decide +kernel
theorem dX0_settle_12 : decode cX0_settle 12 = .ok (.istore_n 1, 1) := by decide +kernel
theorem dX0_settle_13 : decode cX0_settle 13 = .ok (.iconst 0, 1) := by decide +kernel
theorem dX0_settle_14 : decode cX0_settle 14 = .ok (.istore_n 2, 1) := by decide +kernel
theorem dX0_settle_15 : decode cX0_settle 15 = .ok (.iload_n 2, 1) := by decide +kernel
theorem dX0_settle_16 : decode cX0_settle 16 = .ok (.iconst 4, 1) := by decide +kernel
theorem dX0_settle_17 : decode cX0_settle 17 = .ok (.if_icmp .ge 99, 3) := by decide +kernel
theorem dX0_settle_20 : decode cX0_settle 20 = .ok (.aload_n 0, 1) := by decide +kernel
theorem dX0_settle_21 : decode cX0_settle 21 = .ok (.getfield 19, 3) := by decide +kernel
theorem dX0_settle_24 : decode cX0_settle 24 = .ok (.iload_n 2, 1) := by decide +kernel
theorem dX0_settle_25 : decode cX0_settle 25 = .ok (.iaload, 1) := by decide +kernel
theorem dX0_settle_26 : decode cX0_settle 26 = .ok (.aload_n 0, 1) := by decide +kernel
theorem dX0_settle_27 : decode cX0_settle 27 = .ok (.getfield 16, 3) := by decide +kernel
theorem dX0_settle_30 : decode cX0_settle 30 = .ok (.iload_n 2, 1) := by decide +kernel
theorem dX0_settle_31 : decode cX0_settle 31 = .ok (.baload, 1) := by decide +kernel
theorem dX0_settle_32 : decode cX0_settle 32 = .ok (.idiv, 1) := by decide +kernel
theorem dX0_settle_33 : decode cX0_settle 33 = .ok (.istore_n 3, 1) := by decide +kernel
theorem dX0_settle_34 : decode cX0_settle 34 = .ok (.iload_n 3, 1) := by decide +kernel
theorem dX0_settle_35 : decode cX0_settle 35 = .ok (.ifCond .ne 6, 3) := by decide +kernel
theorem dX0_settle_38 : decode cX0_settle 38 = .ok (.goto 72, 3) := by decide +kernel
theorem dX0_settle_41 : decode cX0_settle 41 = .ok (.iconst 1, 1) := by decide +kernel
theorem dX0_settle_42 : decode cX0_settle 42 = .ok (.istore_n 1, 1) := by decide +kernel
theorem dX0_settle_43 : decode cX0_settle 43 = .ok (.aload_n 0, 1) := by decide +kernel
theorem dX0_settle_44 : decode cX0_settle 44 = .ok (.dup, 1) := by decide +kernel
theorem dX0_settle_45 : decode cX0_settle 45 = .ok (.getfield 52, 3) := by decide +kernel
theorem dX0_settle_48 : decode cX0_settle 48 = .ok (.iload_n 3, 1) := by decide +kernel
theorem dX0_settle_49 : decode cX0_settle 49 = .ok (.iadd, 1) := by decide +kernel
theorem dX0_settle_50 : decode cX0_settle 50 = .ok (.putfield 52, 3) := by decide +kernel
theorem dX0_settle_53 : decode cX0_settle 53 = .ok (.aload_n 0, 1) := by decide +kernel
theorem dX0_settle_54 : decode cX0_settle 54 = .ok (.getfield 19, 3) := by decide +kernel
theorem dX0_settle_57 : decode cX0_settle 57 = .ok (.iload_n 2, 1) := by decide +kernel
theorem dX0_settle_58 : decode cX0_settle 58 = .ok (.dup2, 1) := by decide +kernel
theorem dX0_settle_59 : decode cX0_settle 59 = .ok (.iaload, 1) := by decide +kernel
theorem dX0_settle_60 : decode cX0_settle 60 = .ok (.iload_n 3, 1) := by decide +kernel
theorem dX0_settle_61 : decode cX0_settle 61 = .ok (.aload_n 0, 1) := by decide +kernel
theorem dX0_settle_62 : decode cX0_settle 62 = .ok (.getfield 16, 3) := by decide +kernel
theorem dX0_settle_65 : decode cX0_settle 65 = .ok (.iload_n 2, 1) := by decide +kernel
theorem dX0_settle_66 : decode cX0_settle 66 = .ok (.baload, 1) := by decide +kernel
theorem dX0_settle_67 : decode cX0_settle 67 = .ok (.imul, 1) := by decide +kernel
theorem dX0_settle_68 : decode cX0_settle 68 = .ok (.isub, 1) := by decide +kernel
theorem dX0_settle_69 : decode cX0_settle 69 = .ok (.iastore, 1) := by decide +kernel
theorem dX0_settle_70 : decode cX0_settle 70 = .ok (.iconst 0, 1) := by decide +kernel
theorem dX0_settle_71 : decode cX0_settle 71 = .ok (.istore 4, 2) := by decide +kernel
theorem dX0_settle_73 : decode cX0_settle 73 = .ok (.iload 4, 2) := by decide +kernel
theorem dX0_settle_75 : decode cX0_settle 75 = .ok (.iconst 4, 1) := by decide +kernel
theorem dX0_settle_76 : decode cX0_settle 76 = .ok (.if_icmp .ge 34, 3) := by decide +kernel
theorem dX0_settle_79 : decode cX0_settle 79 = .ok (.aload_n 0, 1) := by decide +kernel
theorem dX0_settle_80 : decode cX0_settle 80 = .ok (.getfield 7, 3) := by decide +kernel
theorem dX0_settle_83 : decode cX0_settle 83 = .ok (.iload_n 2, 1) := by decide +kernel
theorem dX0_settle_84 : decode cX0_settle 84 = .ok (.baload, 1) := by decide +kernel
theorem dX0_settle_85 : decode cX0_settle 85 = .ok (.iload 4, 2) := by decide +kernel
theorem dX0_settle_87 : decode cX0_settle 87 = .ok (.ishr, 1) := by decide +kernel
theorem dX0_settle_88 : decode cX0_settle 88 = .ok (.iconst 1, 1) := by decide +kernel
theorem dX0_settle_89 : decode cX0_settle 89 = .ok (.iand, 1) := by decide +kernel
theorem dX0_settle_90 : decode cX0_settle 90 = .ok (.ifCond .eq 14, 3) := by decide +kernel
theorem dX0_settle_93 : decode cX0_settle 93 = .ok (.aload_n 0, 1) := by decide +kernel
theorem dX0_settle_94 : decode cX0_settle 94 = .ok (.getfield 19, 3) := by decide +kernel
theorem dX0_settle_97 : decode cX0_settle 97 = .ok (.iload 4, 2) := by decide +kernel
theorem dX0_settle_99 : decode cX0_settle 99 = .ok (.dup2, 1) := by decide +kernel
theorem dX0_settle_100 : decode cX0_settle 100 = .ok (.iaload, 1) := by decide +kernel
theorem dX0_settle_101 : decode cX0_settle 101 = .ok (.iload_n 3, 1) := by decide +kernel
theorem dX0_settle_102 : decode cX0_settle 102 = .ok (.iadd, 1) := by decide +kernel
theorem dX0_settle_103 : decode cX0_settle 103 = .ok (.iastore, 1) := by decide +kernel
theorem dX0_settle_104 : decode cX0_settle 104 = .ok (.iinc 4 1, 3) := by decide +kernel
theorem dX0_settle_107 : decode cX0_settle 107 = .ok (.goto (-34), 3) := by decide +kernel
theorem dX0_settle_110 : decode cX0_settle 110 = .ok (.iinc 2 1, 3) := by decide +kernel
theorem dX0_settle_113 : decode cX0_settle 113 = .ok (.goto (-98), 3) := by decide +kernel
theorem dX0_settle_116 : decode cX0_settle 116 = .ok (.goto (-109), 3) := by decide +kernel
theorem dX0_settle_119 : decode cX0_settle 119 = .ok (.return_, 1) := by decide +kernel
abbrev cX0_packed : ByteArray := prog_1_method_13_code
def yX0_packed : MethodName := ⟨RX0, "packed", "()I"⟩
theorem dX0_packed_0 : decode cX0_packed 0 = .ok (.iconst 0, 1) := by decide +kernel
theorem dX0_packed_1 : decode cX0_packed 1 = .ok (.istore_n 1, 1) := by decide +kernel
theorem dX0_packed_2 : decode cX0_packed 2 = .ok (.iconst 0, 1) := by decide +kernel
theorem dX0_packed_3 : decode cX0_packed 3 = .ok (.istore_n 2, 1) := by decide +kernel
theorem dX0_packed_4 : decode cX0_packed 4 = .ok (.iload_n 2, 1) := by decide +kernel
theorem dX0_packed_5 : decode cX0_packed 5 = .ok (.iconst 4, 1) := by decide +kernel
theorem dX0_packed_6 : decode cX0_packed 6 = .ok (.if_icmp .ge 21, 3) := by decide +kernel
theorem dX0_packed_9 : decode cX0_packed 9 = .ok (.bipush 8, 2) := by decide +kernel
theorem dX0_packed_11 : decode cX0_packed 11 = .ok (.iload_n 1, 1) := by decide +kernel
theorem dX0_packed_12 : decode cX0_packed 12 = .ok (.imul, 1) := by decide +kernel
theorem dX0_packed_13 : decode cX0_packed 13 = .ok (.aload_n 0, 1) := by decide +kernel
theorem dX0_packed_14 : decode cX0_packed 14 = .ok (.getfield 19, 3) := by decide +kernel
theorem dX0_packed_17 : decode cX0_packed 17 = .ok (.iload_n 2, 1) := by decide +kernel
theorem dX0_packed_18 : decode cX0_packed 18 = .ok (.iaload, 1) := by decide +kernel
theorem dX0_packed_19 : decode cX0_packed 19 = .ok (.iadd, 1) := by decide +kernel
theorem dX0_packed_20 : decode cX0_packed 20 = .ok (.istore_n 1, 1) := by decide +kernel
theorem dX0_packed_21 : decode cX0_packed 21 = .ok (.iinc 2 1, 3) := by decide +kernel
theorem dX0_packed_24 : decode cX0_packed 24 = .ok (.goto (-20), 3) := by decide +kernel
theorem dX0_packed_27 : decode cX0_packed 27 = .ok (.iload_n 1, 1) := by decide +kernel
theorem dX0_packed_28 : decode cX0_packed 28 = .ok (.ireturn, 1) := by decide +kernel
abbrev cX0_state : ByteArray := prog_1_method_7_code
def yX0_state : MethodName := ⟨RX0, "state", "()I"⟩
theorem dX0_state_0 : decode cX0_state 0 = .ok (.aload_n 0, 1) := by decide +kernel
theorem dX0_state_1 : decode cX0_state 1 = .ok (.getfield 33, 3) := by decide +kernel
theorem dX0_state_4 : decode cX0_state 4 = .ok (.ireturn, 1) := by decide +kernel
abbrev cX0_set : ByteArray := prog_1_method_8_code
def yX0_set : MethodName := ⟨RX0, "set", "(I)Z"⟩
theorem dX0_set_0 : decode cX0_set 0 = .ok (.aload_n 0, 1) := by decide +kernel
theorem dX0_set_1 : decode cX0_set 1 = .ok (.iload_n 1, 1) := by decide +kernel
theorem dX0_set_2 : decode cX0_set 2 = .ok (.invokevirtual 55, 3) := by decide +kernel
theorem dX0_set_5 : decode cX0_set 5 = .ok (.ifCond .ne 5, 3) := by decide +kernel
theorem dX0_set_8 : decode cX0_set 8 = .ok (.iconst 0, 1) := by decide +kernel
theorem dX0_set_9 : decode cX0_set 9 = .ok (.ireturn, 1) := by decide +kernel
theorem dX0_set_10 : decode cX0_set 10 = .ok (.aload_n 0, 1) := by decide +kernel
theorem dX0_set_11 : decode cX0_set 11 = .ok (.iload_n 1, 1) := by decide +kernel
theorem dX0_set_12 : decode cX0_set 12 = .ok (.putfield 33, 3) := by decide +kernel
theorem dX0_set_15 : decode cX0_set 15 = .ok (.iconst 1, 1) := by decide +kernel
theorem dX0_set_16 : decode cX0_set 16 = .ok (.ireturn, 1) := by decide +kernel
abbrev cX0_isStable : ByteArray := prog_1_method_11_code
def yX0_isStable : MethodName := ⟨RX0, "isStable", "(I)Z"⟩
theorem dX0_isStable_0 : decode cX0_isStable 0 = .ok (.iload_n 1, 1) := by decide +kernel
theorem dX0_isStable_1 : decode cX0_isStable 1 = .ok (.ifCond .lt 10, 3) := by decide +kernel
theorem dX0_isStable_4 : decode cX0_isStable 4 = .ok (.iload_n 1, 1) := by decide +kernel
theorem dX0_isStable_5 : decode cX0_isStable 5 = .ok (.sipush 4095, 3) := by decide +kernel
theorem dX0_isStable_8 : decode cX0_isStable 8 = .ok (.if_icmp .le 5, 3) := by decide +kernel
theorem dX0_isStable_11 : decode cX0_isStable 11 = .ok (.iconst 0, 1) := by decide +kernel
theorem dX0_isStable_12 : decode cX0_isStable 12 = .ok (.ireturn, 1) := by decide +kernel
theorem dX0_isStable_13 : decode cX0_isStable 13 = .ok (.iconst 0, 1) := by decide +kernel
theorem dX0_isStable_14 : decode cX0_isStable 14 = .ok (.istore_n 2, 1) := by decide +kernel
theorem dX0_isStable_15 : decode cX0_isStable 15 = .ok (.iload_n 2, 1) := by decide +kernel
theorem dX0_isStable_16 : decode cX0_isStable 16 = .ok (.iconst 4, 1) := by decide +kernel
theorem dX0_isStable_17 : decode cX0_isStable 17 = .ok (.if_icmp .ge 26, 3) := by decide +kernel
theorem dX0_isStable_20 : decode cX0_isStable 20 = .ok (.aload_n 0, 1) := by decide +kernel
theorem dX0_isStable_21 : decode cX0_isStable 21 = .ok (.iload_n 1, 1) := by decide +kernel
theorem dX0_isStable_22 : decode cX0_isStable 22 = .ok (.iload_n 2, 1) := by decide +kernel
theorem dX0_isStable_23 : decode cX0_isStable 23 = .ok (.invokevirtual 58, 3) := by decide +kernel
theorem dX0_isStable_26 : decode cX0_isStable 26 = .ok (.aload_n 0, 1) := by decide +kernel
theorem dX0_isStable_27 : decode cX0_isStable 27 = .ok (.getfield 16, 3) := by decide +kernel
theorem dX0_isStable_30 : decode cX0_isStable 30 = .ok (.iload_n 2, 1) := by decide +kernel
theorem dX0_isStable_31 : decode cX0_isStable 31 = .ok (.baload, 1) := by decide +kernel
theorem dX0_isStable_32 : decode cX0_isStable 32 = .ok (.if_icmp .lt 5, 3) := by decide +kernel
theorem dX0_isStable_35 : decode cX0_isStable 35 = .ok (.iconst 0, 1) := by decide +kernel
theorem dX0_isStable_36 : decode cX0_isStable 36 = .ok (.ireturn, 1) := by decide +kernel
theorem dX0_isStable_37 : decode cX0_isStable 37 = .ok (.iinc 2 1, 3) := by decide +kernel
theorem dX0_isStable_40 : decode cX0_isStable 40 = .ok (.goto (-25), 3) := by decide +kernel
theorem dX0_isStable_43 : decode cX0_isStable 43 = .ok (.iconst 1, 1) := by decide +kernel
theorem dX0_isStable_44 : decode cX0_isStable 44 = .ok (.ireturn, 1) := by decide +kernel
abbrev cX0_degree : ByteArray := prog_1_method_9_code
def yX0_degree : MethodName := ⟨RX0, "degree", "(I)I"⟩
theorem dX0_degree_0 : decode cX0_degree 0 = .ok (.aload_n 0, 1) := by decide +kernel
theorem dX0_degree_1 : decode cX0_degree 1 = .ok (.iload_n 1, 1) := by decide +kernel
theorem dX0_degree_2 : decode cX0_degree 2 = .ok (.invokevirtual 26, 3) := by decide +kernel
theorem dX0_degree_5 : decode cX0_degree 5 = .ok (.ifCond .eq 12, 3) := by decide +kernel
theorem dX0_degree_8 : decode cX0_degree 8 = .ok (.aload_n 0, 1) := by decide +kernel
theorem dX0_degree_9 : decode cX0_degree 9 = .ok (.getfield 16, 3) := by decide +kernel
theorem dX0_degree_12 : decode cX0_degree 12 = .ok (.iload_n 1, 1) := by decide +kernel
theorem dX0_degree_13 : decode cX0_degree 13 = .ok (.baload, 1) := by decide +kernel
theorem dX0_degree_14 : decode cX0_degree 14 = .ok (.goto 4, 3) := by decide +kernel
theorem dX0_degree_17 : decode cX0_degree 17 = .ok (.iconst (-1), 1) := by decide +kernel
theorem dX0_degree_18 : decode cX0_degree 18 = .ok (.ireturn, 1) := by decide +kernel
abbrev cX0_recurrent : ByteArray := prog_1_method_16_code
def yX0_recurrent : MethodName := ⟨RX0, "recurrent", "(I)Z"⟩
theorem dX0_recurrent_0 : decode cX0_recurrent 0 = .ok (.aload_n 0, 1) := by decide +kernel
theorem dX0_recurrent_1 : decode cX0_recurrent 1 = .ok (.iload_n 1, 1) := by decide +kernel
theorem dX0_recurrent_2 : decode cX0_recurrent 2 = .ok (.invokevirtual 55, 3) := by decide +kernel
theorem dX0_recurrent_5 : decode cX0_recurrent 5 = .ok (.ifCond .eq 15, 3) := by decide +kernel
theorem dX0_recurrent_8 : decode cX0_recurrent 8 = .ok (.aload_n 0, 1) := by decide +kernel
theorem dX0_recurrent_9 : decode cX0_recurrent 9 = .ok (.iload_n 1, 1) := by decide +kernel
theorem dX0_recurrent_10 : decode cX0_recurrent 10 = .ok (.invokevirtual 62, 3) := by decide +kernel
theorem dX0_recurrent_13 : decode cX0_recurrent 13 = .ok (.ifCond .eq 7, 3) := by decide +kernel
theorem dX0_recurrent_16 : decode cX0_recurrent 16 = .ok (.iconst 1, 1) := by decide +kernel
theorem dX0_recurrent_17 : decode cX0_recurrent 17 = .ok (.goto 4, 3) := by decide +kernel
theorem dX0_recurrent_20 : decode cX0_recurrent 20 = .ok (.iconst 0, 1) := by decide +kernel
theorem dX0_recurrent_21 : decode cX0_recurrent 21 = .ok (.ireturn, 1) := by decide +kernel
abbrev cX0_burns : ByteArray := prog_1_method_15_code
def yX0_burns : MethodName := ⟨RX0, "burns", "(I)Z"⟩
theorem dX0_burns_0 : decode cX0_burns 0 = .ok (.iconst 0, 1) := by decide +kernel
theorem dX0_burns_1 : decode cX0_burns 1 = .ok (.istore_n 2, 1) := by decide +kernel
theorem dX0_burns_2 : decode cX0_burns 2 = .ok (.iconst 0, 1) := by decide +kernel
theorem dX0_burns_3 : decode cX0_burns 3 = .ok (.istore_n 3, 1) := by decide +kernel
theorem dX0_burns_4 : decode cX0_burns 4 = .ok (.iload_n 3, 1) := by decide +kernel
theorem dX0_burns_5 : decode cX0_burns 5 = .ok (.iconst 4, 1) := by decide +kernel
theorem dX0_burns_6 : decode cX0_burns 6 = .ok (.if_icmp .ge 90, 3) := by decide +kernel
theorem dX0_burns_9 : decode cX0_burns 9 = .ok (.iconst 0, 1) := by decide +kernel
theorem dX0_burns_10 : decode cX0_burns 10 = .ok (.istore 4, 2) := by decide +kernel
theorem dX0_burns_12 : decode cX0_burns 12 = .ok (.iload 4, 2) := by decide +kernel
theorem dX0_burns_14 : decode cX0_burns 14 = .ok (.iconst 4, 1) := by decide +kernel
theorem dX0_burns_15 : decode cX0_burns 15 = .ok (.if_icmp .ge 75, 3) := by decide +kernel
theorem dX0_burns_18 : decode cX0_burns 18 = .ok (.aload_n 0, 1) := by decide +kernel
theorem dX0_burns_19 : decode cX0_burns 19 = .ok (.getfield 7, 3) := by decide +kernel
theorem dX0_burns_22 : decode cX0_burns 22 = .ok (.iload 4, 2) := by decide +kernel
theorem dX0_burns_24 : decode cX0_burns 24 = .ok (.baload, 1) := by decide +kernel
theorem dX0_burns_25 : decode cX0_burns 25 = .ok (.iload_n 2, 1) := by decide +kernel
theorem dX0_burns_26 : decode cX0_burns 26 = .ok (.iconst (-1), 1) := by decide +kernel
theorem dX0_burns_27 : decode cX0_burns 27 = .ok (.ixor, 1) := by decide +kernel
theorem dX0_burns_28 : decode cX0_burns 28 = .ok (.iand, 1) := by decide +kernel
theorem dX0_burns_29 : decode cX0_burns 29 = .ok (.istore 5, 2) := by decide +kernel
theorem dX0_burns_31 : decode cX0_burns 31 = .ok (.iconst 0, 1) := by decide +kernel
theorem dX0_burns_32 : decode cX0_burns 32 = .ok (.istore 6, 2) := by decide +kernel
theorem dX0_burns_34 : decode cX0_burns 34 = .ok (.iconst 0, 1) := by decide +kernel
theorem dX0_burns_35 : decode cX0_burns 35 = .ok (.istore 7, 2) := by decide +kernel
theorem dX0_burns_37 : decode cX0_burns 37 = .ok (.iload 7, 2) := by decide +kernel
theorem dX0_burns_39 : decode cX0_burns 39 = .ok (.iconst 4, 1) := by decide +kernel
theorem dX0_burns_40 : decode cX0_burns 40 = .ok (.if_icmp .ge 21, 3) := by decide +kernel
theorem dX0_burns_43 : decode cX0_burns 43 = .ok (.iload 6, 2) := by decide +kernel
theorem dX0_burns_45 : decode cX0_burns 45 = .ok (.iload 5, 2) := by decide +kernel
theorem dX0_burns_47 : decode cX0_burns 47 = .ok (.iload 7, 2) := by decide +kernel
theorem dX0_burns_49 : decode cX0_burns 49 = .ok (.ishr, 1) := by decide +kernel
theorem dX0_burns_50 : decode cX0_burns 50 = .ok (.iconst 1, 1) := by decide +kernel
theorem dX0_burns_51 : decode cX0_burns 51 = .ok (.iand, 1) := by decide +kernel
theorem dX0_burns_52 : decode cX0_burns 52 = .ok (.iadd, 1) := by decide +kernel
theorem dX0_burns_53 : decode cX0_burns 53 = .ok (.istore 6, 2) := by decide +kernel
theorem dX0_burns_55 : decode cX0_burns 55 = .ok (.iinc 7 1, 3) := by decide +kernel
theorem dX0_burns_58 : decode cX0_burns 58 = .ok (.goto (-21), 3) := by decide +kernel
theorem dX0_burns_61 : decode cX0_burns 61 = .ok (.aload_n 0, 1) := by decide +kernel
theorem dX0_burns_62 : decode cX0_burns 62 = .ok (.iload_n 1, 1) := by decide +kernel
theorem dX0_burns_63 : decode cX0_burns 63 = .ok (.iload 4, 2) := by decide +kernel
theorem dX0_burns_65 : decode cX0_burns 65 = .ok (.invokevirtual 58, 3) := by decide +kernel
theorem dX0_burns_68 : decode cX0_burns 68 = .ok (.istore 7, 2) := by decide +kernel
theorem dX0_burns_70 : decode cX0_burns 70 = .ok (.iload 7, 2) := by decide +kernel
theorem dX0_burns_72 : decode cX0_burns 72 = .ok (.iload 6, 2) := by decide +kernel
theorem dX0_burns_74 : decode cX0_burns 74 = .ok (.if_icmp .lt 10, 3) := by decide +kernel
theorem dX0_burns_77 : decode cX0_burns 77 = .ok (.iload_n 2, 1) := by decide +kernel
theorem dX0_burns_78 : decode cX0_burns 78 = .ok (.iconst 1, 1) := by decide +kernel
theorem dX0_burns_79 : decode cX0_burns 79 = .ok (.iload 4, 2) := by decide +kernel
theorem dX0_burns_81 : decode cX0_burns 81 = .ok (.ishl, 1) := by decide +kernel
theorem dX0_burns_82 : decode cX0_burns 82 = .ok (.ior, 1) := by decide +kernel
theorem dX0_burns_83 : decode cX0_burns 83 = .ok (.istore_n 2, 1) := by decide +kernel
theorem dX0_burns_84 : decode cX0_burns 84 = .ok (.iinc 4 1, 3) := by decide +kernel
theorem dX0_burns_87 : decode cX0_burns 87 = .ok (.goto (-75), 3) := by decide +kernel
theorem dX0_burns_90 : decode cX0_burns 90 = .ok (.iinc 3 1, 3) := by decide +kernel
theorem dX0_burns_93 : decode cX0_burns 93 = .ok (.goto (-89), 3) := by decide +kernel
theorem dX0_burns_96 : decode cX0_burns 96 = .ok (.iload_n 2, 1) := by decide +kernel
theorem dX0_burns_97 : decode cX0_burns 97 = .ok (.bipush 15, 2) := by decide +kernel
theorem dX0_burns_99 : decode cX0_burns 99 = .ok (.if_icmp .ne 7, 3) := by decide +kernel
theorem dX0_burns_102 : decode cX0_burns 102 = .ok (.iconst 1, 1) := by decide +kernel
theorem dX0_burns_103 : decode cX0_burns 103 = .ok (.goto 4, 3) := by decide +kernel
theorem dX0_burns_106 : decode cX0_burns 106 = .ok (.iconst 0, 1) := by decide +kernel
theorem dX0_burns_107 : decode cX0_burns 107 = .ok (.ireturn, 1) := by decide +kernel
abbrev cX0_order : ByteArray := prog_1_method_17_code
def yX0_order : MethodName := ⟨RX0, "order", "()I"⟩
theorem dX0_order_0 : decode cX0_order 0 = .ok (.aload_n 0, 1) := by decide +kernel
theorem dX0_order_1 : decode cX0_order 1 = .ok (.invokevirtual 65, 3) := by decide +kernel
theorem dX0_order_4 : decode cX0_order 4 = .ok (.aload_n 0, 1) := by decide +kernel
theorem dX0_order_5 : decode cX0_order 5 = .ok (.getfield 68, 3) := by decide +kernel
theorem dX0_order_8 : decode cX0_order 8 = .ok (.ireturn, 1) := by decide +kernel
abbrev cX0_learn : ByteArray := prog_1_method_23_code
def yX0_learn : MethodName := ⟨RX0, "learn", "()V"⟩
theorem dX0_learn_0 : decode cX0_learn 0 = .ok (.aload_n 0, 1) := by decide +kernel
theorem dX0_learn_1 : decode cX0_learn 1 = .ok (.getfield 37, 3) := by decide +kernel
theorem dX0_learn_4 : decode cX0_learn 4 = .ok (.ifCond .eq 4, 3) := by decide +kernel
theorem dX0_learn_7 : decode cX0_learn 7 = .ok (.return_, 1) := by decide +kernel
theorem dX0_learn_8 : decode cX0_learn 8 = .ok (.aload_n 0, 1) := by decide +kernel
theorem dX0_learn_9 : decode cX0_learn 9 = .ok (.iconst 1, 1) := by decide +kernel
theorem dX0_learn_10 : decode cX0_learn 10 = .ok (.putfield 37, 3) := by decide +kernel
theorem dX0_learn_13 : decode cX0_learn 13 = .ok (.aload_n 0, 1) := by decide +kernel
theorem dX0_learn_14 : decode cX0_learn 14 = .ok (.aload_n 0, 1) := by decide +kernel
theorem dX0_learn_15 : decode cX0_learn 15 = .ok (.invokevirtual 84, 3) := by decide +kernel
theorem dX0_learn_18 : decode cX0_learn 18 = .ok (.putfield 68, 3) := by decide +kernel
theorem dX0_learn_21 : decode cX0_learn 21 = .ok (.aload_n 0, 1) := by decide +kernel
theorem dX0_learn_22 : decode cX0_learn 22 = .ok (.iconst 2, 1) := by decide +kernel
theorem dX0_learn_23 : decode cX0_learn 23 = .ok (.invokevirtual 77, 3) := by decide +kernel
theorem dX0_learn_26 : decode cX0_learn 26 = .ok (.istore_n 1, 1) := by decide +kernel
theorem dX0_learn_27 : decode cX0_learn 27 = .ok (.iconst 0, 1) := by decide +kernel
theorem dX0_learn_28 : decode cX0_learn 28 = .ok (.istore_n 2, 1) := by decide +kernel
theorem dX0_learn_29 : decode cX0_learn 29 = .ok (.iload_n 2, 1) := by decide +kernel
theorem dX0_learn_30 : decode cX0_learn 30 = .ok (.iconst 4, 1) := by decide +kernel
theorem dX0_learn_31 : decode cX0_learn 31 = .ok (.if_icmp .ge 34, 3) := by decide +kernel
theorem dX0_learn_34 : decode cX0_learn 34 = .ok (.aload_n 0, 1) := by decide +kernel
theorem dX0_learn_35 : decode cX0_learn 35 = .ok (.iload_n 1, 1) := by decide +kernel
theorem dX0_learn_36 : decode cX0_learn 36 = .ok (.iload_n 2, 1) := by decide +kernel
theorem dX0_learn_37 : decode cX0_learn 37 = .ok (.invokevirtual 58, 3) := by decide +kernel
theorem dX0_learn_40 : decode cX0_learn 40 = .ok (.istore_n 3, 1) := by decide +kernel
theorem dX0_learn_41 : decode cX0_learn 41 = .ok (.aload_n 0, 1) := by decide +kernel
theorem dX0_learn_42 : decode cX0_learn 42 = .ok (.getfield 19, 3) := by decide +kernel
theorem dX0_learn_45 : decode cX0_learn 45 = .ok (.iload_n 2, 1) := by decide +kernel
theorem dX0_learn_46 : decode cX0_learn 46 = .ok (.iconst 2, 1) := by decide +kernel
theorem dX0_learn_47 : decode cX0_learn 47 = .ok (.aload_n 0, 1) := by decide +kernel
theorem dX0_learn_48 : decode cX0_learn 48 = .ok (.getfield 16, 3) := by decide +kernel
theorem dX0_learn_51 : decode cX0_learn 51 = .ok (.iload_n 2, 1) := by decide +kernel
theorem dX0_learn_52 : decode cX0_learn 52 = .ok (.baload, 1) := by decide +kernel
theorem dX0_learn_53 : decode cX0_learn 53 = .ok (.iconst 1, 1) := by decide +kernel
theorem dX0_learn_54 : decode cX0_learn 54 = .ok (.isub, 1) := by decide +kernel
theorem dX0_learn_55 : decode cX0_learn 55 = .ok (.imul, 1) := by decide +kernel
theorem dX0_learn_56 : decode cX0_learn 56 = .ok (.iload_n 3, 1) := by decide +kernel
theorem dX0_learn_57 : decode cX0_learn 57 = .ok (.isub, 1) := by decide +kernel
theorem dX0_learn_58 : decode cX0_learn 58 = .ok (.iastore, 1) := by decide +kernel
theorem dX0_learn_59 : decode cX0_learn 59 = .ok (.iinc 2 1, 3) := by decide +kernel
theorem dX0_learn_62 : decode cX0_learn 62 = .ok (.goto (-33), 3) := by decide +kernel
theorem dX0_learn_65 : decode cX0_learn 65 = .ok (.aload_n 0, 1) := by decide +kernel
theorem dX0_learn_66 : decode cX0_learn 66 = .ok (.invokevirtual 45, 3) := by decide +kernel
theorem dX0_learn_69 : decode cX0_learn 69 = .ok (.aload_n 0, 1) := by decide +kernel
theorem dX0_learn_70 : decode cX0_learn 70 = .ok (.aload_n 0, 1) := by decide +kernel
theorem dX0_learn_71 : decode cX0_learn 71 = .ok (.invokevirtual 48, 3) := by decide +kernel
theorem dX0_learn_74 : decode cX0_learn 74 = .ok (.putfield 71, 3) := by decide +kernel
theorem dX0_learn_77 : decode cX0_learn 77 = .ok (.return_, 1) := by decide +kernel
abbrev cX0_determinant : ByteArray := prog_1_method_27_code
def yX0_determinant : MethodName := ⟨RX0, "determinant", "()I"⟩
theorem dX0_determinant_0 : decode cX0_determinant 0 = .ok (.iconst 0, 1) := by decide +kernel
theorem dX0_determinant_1 : decode cX0_determinant 1 = .ok (.istore_n 1, 1) := by decide +kernel
theorem dX0_determinant_2 : decode cX0_determinant 2 = .ok (.iload_n 1, 1) := by decide +kernel
theorem dX0_determinant_3 : decode cX0_determinant 3 = .ok (.iconst 4, 1) := by decide +kernel
theorem dX0_determinant_4 : decode cX0_determinant 4 = .ok (.if_icmp .ge 57, 3) := by decide +kernel
theorem dX0_determinant_7 : decode cX0_determinant 7 = .ok (.iconst 0, 1) := by decide +kernel
theorem dX0_determinant_8 : decode cX0_determinant 8 = .ok (.istore_n 2, 1) := by decide +kernel
theorem dX0_determinant_9 : decode cX0_determinant 9 = .ok (.iload_n 2, 1) := by decide +kernel
theorem dX0_determinant_10 : decode cX0_determinant 10 = .ok (.iconst 4, 1) := by decide +kernel
theorem dX0_determinant_11 : decode cX0_determinant 11 = .ok (.if_icmp .ge 44, 3) := by decide +kernel
theorem dX0_determinant_14 : decode cX0_determinant 14 = .ok (.aload_n 0, 1) := by decide +kernel
theorem dX0_determinant_15 : decode cX0_determinant 15 = .ok (.getfield 23, 3) := by decide +kernel
theorem dX0_determinant_18 : decode cX0_determinant 18 = .ok (.iconst 4, 1) := by decide +kernel
theorem dX0_determinant_19 : decode cX0_determinant 19 = .ok (.iload_n 1, 1) := by decide +kernel
theorem dX0_determinant_20 : decode cX0_determinant 20 = .ok (.imul, 1) := by decide +kernel
theorem dX0_determinant_21 : decode cX0_determinant 21 = .ok (.iload_n 2, 1) := by decide +kernel
theorem dX0_determinant_22 : decode cX0_determinant 22 = .ok (.iadd, 1) := by decide +kernel
theorem dX0_determinant_23 : decode cX0_determinant 23 = .ok (.iload_n 1, 1) := by decide +kernel
theorem dX0_determinant_24 : decode cX0_determinant 24 = .ok (.iload_n 2, 1) := by decide +kernel
theorem dX0_determinant_25 : decode cX0_determinant 25 = .ok (.if_icmp .ne 12, 3) := by decide +kernel
theorem dX0_determinant_28 : decode cX0_determinant 28 = .ok (.aload_n 0, 1) := by decide +kernel
theorem dX0_determinant_29 : decode cX0_determinant 29 = .ok (.getfield 16, 3) := by decide +kernel
theorem dX0_determinant_32 : decode cX0_determinant 32 = .ok (.iload_n 1, 1) := by decide +kernel
theorem dX0_determinant_33 : decode cX0_determinant 33 = .ok (.baload, 1) := by decide +kernel
theorem dX0_determinant_34 : decode cX0_determinant 34 = .ok (.goto 14, 3) := by decide +kernel
theorem dX0_determinant_37 : decode cX0_determinant 37 = .ok (.aload_n 0, 1) := by decide +kernel
theorem dX0_determinant_38 : decode cX0_determinant 38 = .ok (.getfield 7, 3) := by decide +kernel
theorem dX0_determinant_41 : decode cX0_determinant 41 = .ok (.iload_n 1, 1) := by decide +kernel
theorem dX0_determinant_42 : decode cX0_determinant 42 = .ok (.baload, 1) := by decide +kernel
theorem dX0_determinant_43 : decode cX0_determinant 43 = .ok (.iload_n 2, 1) := by decide +kernel
theorem dX0_determinant_44 : decode cX0_determinant 44 = .ok (.ishr, 1) := by decide +kernel
theorem dX0_determinant_45 : decode cX0_determinant 45 = .ok (.iconst 1, 1) := by decide +kernel
theorem dX0_determinant_46 : decode cX0_determinant 46 = .ok (.iand, 1) := by decide +kernel
theorem dX0_determinant_47 : decode cX0_determinant 47 = .ok (.ineg, 1) := by decide +kernel
theorem dX0_determinant_48 : decode cX0_determinant 48 = .ok (.iastore, 1) := by decide +kernel
theorem dX0_determinant_49 : decode cX0_determinant 49 = .ok (.iinc 2 1, 3) := by decide +kernel
theorem dX0_determinant_52 : decode cX0_determinant 52 = .ok (.goto (-43), 3) := by decide +kernel
theorem dX0_determinant_55 : decode cX0_determinant 55 = .ok (.iinc 1 1, 3) := by decide +kernel
theorem dX0_determinant_58 : decode cX0_determinant 58 = .ok (.goto (-56), 3) := by decide +kernel
theorem dX0_determinant_61 : decode cX0_determinant 61 = .ok (.iconst 1, 1) := by decide +kernel
theorem dX0_determinant_62 : decode cX0_determinant 62 = .ok (.istore_n 1, 1) := by decide +kernel
theorem dX0_determinant_63 : decode cX0_determinant 63 = .ok (.iconst 0, 1) := by decide +kernel
theorem dX0_determinant_64 : decode cX0_determinant 64 = .ok (.istore_n 2, 1) := by decide +kernel
theorem dX0_determinant_65 : decode cX0_determinant 65 = .ok (.iload_n 2, 1) := by decide +kernel
theorem dX0_determinant_66 : decode cX0_determinant 66 = .ok (.iconst 4, 1) := by decide +kernel
theorem dX0_determinant_67 : decode cX0_determinant 67 = .ok (.if_icmp .ge 40, 3) := by decide +kernel
theorem dX0_determinant_70 : decode cX0_determinant 70 = .ok (.iload_n 2, 1) := by decide +kernel
theorem dX0_determinant_71 : decode cX0_determinant 71 = .ok (.iconst 1, 1) := by decide +kernel
theorem dX0_determinant_72 : decode cX0_determinant 72 = .ok (.iadd, 1) := by decide +kernel
theorem dX0_determinant_73 : decode cX0_determinant 73 = .ok (.istore_n 3, 1) := by decide +kernel
theorem dX0_determinant_74 : decode cX0_determinant 74 = .ok (.iload_n 3, 1) := by decide +kernel
theorem dX0_determinant_75 : decode cX0_determinant 75 = .ok (.iconst 4, 1) := by decide +kernel
theorem dX0_determinant_76 : decode cX0_determinant 76 = .ok (.if_icmp .ge 16, 3) := by decide +kernel
theorem dX0_determinant_79 : decode cX0_determinant 79 = .ok (.aload_n 0, 1) := by decide +kernel
theorem dX0_determinant_80 : decode cX0_determinant 80 = .ok (.iload_n 3, 1) := by decide +kernel
theorem dX0_determinant_81 : decode cX0_determinant 81 = .ok (.iload_n 2, 1) := by decide +kernel
theorem dX0_determinant_82 : decode cX0_determinant 82 = .ok (.iload_n 1, 1) := by decide +kernel
theorem dX0_determinant_83 : decode cX0_determinant 83 = .ok (.invokevirtual 90, 3) := by decide +kernel
theorem dX0_determinant_86 : decode cX0_determinant 86 = .ok (.iinc 3 1, 3) := by decide +kernel
theorem dX0_determinant_89 : decode cX0_determinant 89 = .ok (.goto (-15), 3) := by decide +kernel
theorem dX0_determinant_92 : decode cX0_determinant 92 = .ok (.aload_n 0, 1) := by decide +kernel
theorem dX0_determinant_93 : decode cX0_determinant 93 = .ok (.getfield 23, 3) := by decide +kernel
theorem dX0_determinant_96 : decode cX0_determinant 96 = .ok (.iconst 5, 1) := by decide +kernel
theorem dX0_determinant_97 : decode cX0_determinant 97 = .ok (.iload_n 2, 1) := by decide +kernel
theorem dX0_determinant_98 : decode cX0_determinant 98 = .ok (.imul, 1) := by decide +kernel
theorem dX0_determinant_99 : decode cX0_determinant 99 = .ok (.iaload, 1) := by decide +kernel
theorem dX0_determinant_100 : decode cX0_determinant 100 = .ok (.istore_n 1, 1) := by decide +kernel
theorem dX0_determinant_101 : decode cX0_determinant 101 = .ok (.iinc 2 1, 3) := by decide +kernel
theorem dX0_determinant_104 : decode cX0_determinant 104 = .ok (.goto (-39), 3) := by decide +kernel
theorem dX0_determinant_107 : decode cX0_determinant 107 = .ok (.iload_n 1, 1) := by decide +kernel
theorem dX0_determinant_108 : decode cX0_determinant 108 = .ok (.ireturn, 1) := by decide +kernel
abbrev cX0_reduce : ByteArray := prog_1_method_28_code
def yX0_reduce : MethodName := ⟨RX0, "reduce", "(III)V"⟩
theorem dX0_reduce_0 : decode cX0_reduce 0 = .ok (.aload_n 0, 1) := by decide +kernel
theorem dX0_reduce_1 : decode cX0_reduce 1 = .ok (.getfield 23, 3) := by decide +kernel
theorem dX0_reduce_4 : decode cX0_reduce 4 = .ok (.iconst 5, 1) := by decide +kernel
theorem dX0_reduce_5 : decode cX0_reduce 5 = .ok (.iload_n 2, 1) := by decide +kernel
theorem dX0_reduce_6 : decode cX0_reduce 6 = .ok (.imul, 1) := by decide +kernel
theorem dX0_reduce_7 : decode cX0_reduce 7 = .ok (.iaload, 1) := by decide +kernel
theorem dX0_reduce_8 : decode cX0_reduce 8 = .ok (.istore 4, 2) := by decide +kernel
theorem dX0_reduce_10 : decode cX0_reduce 10 = .ok (.aload_n 0, 1) := by decide +kernel
theorem dX0_reduce_11 : decode cX0_reduce 11 = .ok (.getfield 23, 3) := by decide +kernel
theorem dX0_reduce_14 : decode cX0_reduce 14 = .ok (.iconst 4, 1) := by decide +kernel
theorem dX0_reduce_15 : decode cX0_reduce 15 = .ok (.iload_n 1, 1) := by decide +kernel
theorem dX0_reduce_16 : decode cX0_reduce 16 = .ok (.imul, 1) := by decide +kernel
theorem dX0_reduce_17 : decode cX0_reduce 17 = .ok (.iload_n 2, 1) := by decide +kernel
theorem dX0_reduce_18 : decode cX0_reduce 18 = .ok (.iadd, 1) := by decide +kernel
theorem dX0_reduce_19 : decode cX0_reduce 19 = .ok (.iaload, 1) := by decide +kernel
theorem dX0_reduce_20 : decode cX0_reduce 20 = .ok (.istore 5, 2) := by decide +kernel
theorem dX0_reduce_22 : decode cX0_reduce 22 = .ok (.iconst 0, 1) := by decide +kernel
theorem dX0_reduce_23 : decode cX0_reduce 23 = .ok (.istore 6, 2) := by decide +kernel
theorem dX0_reduce_25 : decode cX0_reduce 25 = .ok (.iload 6, 2) := by decide +kernel
theorem dX0_reduce_27 : decode cX0_reduce 27 = .ok (.iconst 4, 1) := by decide +kernel
theorem dX0_reduce_28 : decode cX0_reduce 28 = .ok (.if_icmp .ge 51, 3) := by decide +kernel
theorem dX0_reduce_31 : decode cX0_reduce 31 = .ok (.aload_n 0, 1) := by decide +kernel
theorem dX0_reduce_32 : decode cX0_reduce 32 = .ok (.getfield 23, 3) := by decide +kernel
theorem dX0_reduce_35 : decode cX0_reduce 35 = .ok (.iconst 4, 1) := by decide +kernel
theorem dX0_reduce_36 : decode cX0_reduce 36 = .ok (.iload_n 1, 1) := by decide +kernel
theorem dX0_reduce_37 : decode cX0_reduce 37 = .ok (.imul, 1) := by decide +kernel
theorem dX0_reduce_38 : decode cX0_reduce 38 = .ok (.iload 6, 2) := by decide +kernel
theorem dX0_reduce_40 : decode cX0_reduce 40 = .ok (.iadd, 1) := by decide +kernel
theorem dX0_reduce_41 : decode cX0_reduce 41 = .ok (.aload_n 0, 1) := by decide +kernel
theorem dX0_reduce_42 : decode cX0_reduce 42 = .ok (.getfield 23, 3) := by decide +kernel
theorem dX0_reduce_45 : decode cX0_reduce 45 = .ok (.iconst 4, 1) := by decide +kernel
theorem dX0_reduce_46 : decode cX0_reduce 46 = .ok (.iload_n 1, 1) := by decide +kernel
theorem dX0_reduce_47 : decode cX0_reduce 47 = .ok (.imul, 1) := by decide +kernel
theorem dX0_reduce_48 : decode cX0_reduce 48 = .ok (.iload 6, 2) := by decide +kernel
theorem dX0_reduce_50 : decode cX0_reduce 50 = .ok (.iadd, 1) := by decide +kernel
theorem dX0_reduce_51 : decode cX0_reduce 51 = .ok (.iaload, 1) := by decide +kernel
theorem dX0_reduce_52 : decode cX0_reduce 52 = .ok (.iload 4, 2) := by decide +kernel
theorem dX0_reduce_54 : decode cX0_reduce 54 = .ok (.imul, 1) := by decide +kernel
theorem dX0_reduce_55 : decode cX0_reduce 55 = .ok (.iload 5, 2) := by decide +kernel
theorem dX0_reduce_57 : decode cX0_reduce 57 = .ok (.aload_n 0, 1) := by decide +kernel
theorem dX0_reduce_58 : decode cX0_reduce 58 = .ok (.getfield 23, 3) := by decide +kernel
theorem dX0_reduce_61 : decode cX0_reduce 61 = .ok (.iconst 4, 1) := by decide +kernel
theorem dX0_reduce_62 : decode cX0_reduce 62 = .ok (.iload_n 2, 1) := by decide +kernel
theorem dX0_reduce_63 : decode cX0_reduce 63 = .ok (.imul, 1) := by decide +kernel
theorem dX0_reduce_64 : decode cX0_reduce 64 = .ok (.iload 6, 2) := by decide +kernel
theorem dX0_reduce_66 : decode cX0_reduce 66 = .ok (.iadd, 1) := by decide +kernel
theorem dX0_reduce_67 : decode cX0_reduce 67 = .ok (.iaload, 1) := by decide +kernel
theorem dX0_reduce_68 : decode cX0_reduce 68 = .ok (.imul, 1) := by decide +kernel
theorem dX0_reduce_69 : decode cX0_reduce 69 = .ok (.isub, 1) := by decide +kernel
theorem dX0_reduce_70 : decode cX0_reduce 70 = .ok (.iload_n 3, 1) := by decide +kernel
theorem dX0_reduce_71 : decode cX0_reduce 71 = .ok (.idiv, 1) := by decide +kernel
theorem dX0_reduce_72 : decode cX0_reduce 72 = .ok (.iastore, 1) := by decide +kernel
theorem dX0_reduce_73 : decode cX0_reduce 73 = .ok (.iinc 6 1, 3) := by decide +kernel
theorem dX0_reduce_76 : decode cX0_reduce 76 = .ok (.goto (-51), 3) := by decide +kernel
theorem dX0_reduce_79 : decode cX0_reduce 79 = .ok (.return_, 1) := by decide +kernel
abbrev cX0_settledMultiple : ByteArray := prog_1_method_20_code
def yX0_settledMultiple : MethodName := ⟨RX0, "settledMultiple", "(I)I"⟩
theorem dX0_settledMultiple_0 : decode cX0_settledMultiple 0 = .ok (.iconst 0, 1) := by decide +kernel
theorem dX0_settledMultiple_1 : decode cX0_settledMultiple 1 = .ok (.istore_n 2, 1) := by decide +kernel
theorem dX0_settledMultiple_2 : decode cX0_settledMultiple 2 = .ok (.iload_n 2, 1) := by decide +kernel
theorem dX0_settledMultiple_3 : decode cX0_settledMultiple 3 = .ok (.iconst 4, 1) := by decide +kernel
theorem dX0_settledMultiple_4 : decode cX0_settledMultiple 4 = .ok (.if_icmp .ge 25, 3) := by decide +kernel
theorem dX0_settledMultiple_7 : decode cX0_settledMultiple 7 = .ok (.aload_n 0, 1) := by decide +kernel
theorem dX0_settledMultiple_8 : decode cX0_settledMultiple 8 = .ok (.getfield 19, 3) := by decide +kernel
theorem dX0_settledMultiple_11 : decode cX0_settledMultiple 11 = .ok (.iload_n 2, 1) := by decide +kernel
theorem dX0_settledMultiple_12 : decode cX0_settledMultiple 12 = .ok (.iload_n 1, 1) := by decide +kernel
theorem dX0_settledMultiple_13 : decode cX0_settledMultiple 13 = .ok (.aload_n 0, 1) := by decide +kernel
theorem dX0_settledMultiple_14 : decode cX0_settledMultiple 14 = .ok (.getfield 16, 3) := by decide +kernel
theorem dX0_settledMultiple_17 : decode cX0_settledMultiple 17 = .ok (.iload_n 2, 1) := by decide +kernel
theorem dX0_settledMultiple_18 : decode cX0_settledMultiple 18 = .ok (.baload, 1) := by decide +kernel
theorem dX0_settledMultiple_19 : decode cX0_settledMultiple 19 = .ok (.iconst 1, 1) := by decide +kernel
theorem dX0_settledMultiple_20 : decode cX0_settledMultiple 20 = .ok (.isub, 1) := by decide +kernel
theorem dX0_settledMultiple_21 : decode cX0_settledMultiple 21 = .ok (.imul, 1) := by decide +kernel
theorem dX0_settledMultiple_22 : decode cX0_settledMultiple 22 = .ok (.iastore, 1) := by decide +kernel
theorem dX0_settledMultiple_23 : decode cX0_settledMultiple 23 = .ok (.iinc 2 1, 3) := by decide +kernel
theorem dX0_settledMultiple_26 : decode cX0_settledMultiple 26 = .ok (.goto (-24), 3) := by decide +kernel
theorem dX0_settledMultiple_29 : decode cX0_settledMultiple 29 = .ok (.aload_n 0, 1) := by decide +kernel
theorem dX0_settledMultiple_30 : decode cX0_settledMultiple 30 = .ok (.invokevirtual 45, 3) := by decide +kernel
theorem dX0_settledMultiple_33 : decode cX0_settledMultiple 33 = .ok (.aload_n 0, 1) := by decide +kernel
theorem dX0_settledMultiple_34 : decode cX0_settledMultiple 34 = .ok (.invokevirtual 48, 3) := by decide +kernel
theorem dX0_settledMultiple_37 : decode cX0_settledMultiple 37 = .ok (.ireturn, 1) := by decide +kernel
abbrev cX0_neutral : ByteArray := prog_1_method_18_code
def yX0_neutral : MethodName := ⟨RX0, "neutral", "()I"⟩
theorem dX0_neutral_0 : decode cX0_neutral 0 = .ok (.aload_n 0, 1) := by decide +kernel
theorem dX0_neutral_1 : decode cX0_neutral 1 = .ok (.invokevirtual 65, 3) := by decide +kernel
theorem dX0_neutral_4 : decode cX0_neutral 4 = .ok (.aload_n 0, 1) := by decide +kernel
theorem dX0_neutral_5 : decode cX0_neutral 5 = .ok (.getfield 71, 3) := by decide +kernel
theorem dX0_neutral_8 : decode cX0_neutral 8 = .ok (.ireturn, 1) := by decide +kernel
abbrev cX0_opposite : ByteArray := prog_1_method_19_code
def yX0_opposite : MethodName := ⟨RX0, "opposite", "(I)I"⟩
theorem dX0_opposite_0 : decode cX0_opposite 0 = .ok (.aload_n 0, 1) := by decide +kernel
theorem dX0_opposite_1 : decode cX0_opposite 1 = .ok (.iload_n 1, 1) := by decide +kernel
theorem dX0_opposite_2 : decode cX0_opposite 2 = .ok (.invokevirtual 74, 3) := by decide +kernel
theorem dX0_opposite_5 : decode cX0_opposite 5 = .ok (.ifCond .ne 5, 3) := by decide +kernel
theorem dX0_opposite_8 : decode cX0_opposite 8 = .ok (.iconst (-1), 1) := by decide +kernel
theorem dX0_opposite_9 : decode cX0_opposite 9 = .ok (.ireturn, 1) := by decide +kernel
theorem dX0_opposite_10 : decode cX0_opposite 10 = .ok (.aload_n 0, 1) := by decide +kernel
theorem dX0_opposite_11 : decode cX0_opposite 11 = .ok (.invokevirtual 65, 3) := by decide +kernel
theorem dX0_opposite_14 : decode cX0_opposite 14 = .ok (.aload_n 0, 1) := by decide +kernel
theorem dX0_opposite_15 : decode cX0_opposite 15 = .ok (.iconst 4, 1) := by decide +kernel
theorem dX0_opposite_16 : decode cX0_opposite 16 = .ok (.invokevirtual 77, 3) := by decide +kernel
theorem dX0_opposite_19 : decode cX0_opposite 19 = .ok (.istore_n 2, 1) := by decide +kernel
theorem dX0_opposite_20 : decode cX0_opposite 20 = .ok (.iconst 0, 1) := by decide +kernel
theorem dX0_opposite_21 : decode cX0_opposite 21 = .ok (.istore_n 3, 1) := by decide +kernel
theorem dX0_opposite_22 : decode cX0_opposite 22 = .ok (.iload_n 3, 1) := by decide +kernel
theorem dX0_opposite_23 : decode cX0_opposite 23 = .ok (.iconst 4, 1) := by decide +kernel
theorem dX0_opposite_24 : decode cX0_opposite 24 = .ok (.if_icmp .ge 61, 3) := by decide +kernel
theorem dX0_opposite_27 : decode cX0_opposite 27 = .ok (.aload_n 0, 1) := by decide +kernel
theorem dX0_opposite_28 : decode cX0_opposite 28 = .ok (.getfield 16, 3) := by decide +kernel
theorem dX0_opposite_31 : decode cX0_opposite 31 = .ok (.iload_n 3, 1) := by decide +kernel
theorem dX0_opposite_32 : decode cX0_opposite 32 = .ok (.baload, 1) := by decide +kernel
theorem dX0_opposite_33 : decode cX0_opposite 33 = .ok (.iconst 1, 1) := by decide +kernel
theorem dX0_opposite_34 : decode cX0_opposite 34 = .ok (.isub, 1) := by decide +kernel
theorem dX0_opposite_35 : decode cX0_opposite 35 = .ok (.istore 4, 2) := by decide +kernel
theorem dX0_opposite_37 : decode cX0_opposite 37 = .ok (.aload_n 0, 1) := by decide +kernel
theorem dX0_opposite_38 : decode cX0_opposite 38 = .ok (.iload_n 1, 1) := by decide +kernel
theorem dX0_opposite_39 : decode cX0_opposite 39 = .ok (.iload_n 3, 1) := by decide +kernel
theorem dX0_opposite_40 : decode cX0_opposite 40 = .ok (.invokevirtual 58, 3) := by decide +kernel
theorem dX0_opposite_43 : decode cX0_opposite 43 = .ok (.istore 5, 2) := by decide +kernel
theorem dX0_opposite_45 : decode cX0_opposite 45 = .ok (.aload_n 0, 1) := by decide +kernel
theorem dX0_opposite_46 : decode cX0_opposite 46 = .ok (.iload_n 2, 1) := by decide +kernel
theorem dX0_opposite_47 : decode cX0_opposite 47 = .ok (.iload_n 3, 1) := by decide +kernel
theorem dX0_opposite_48 : decode cX0_opposite 48 = .ok (.invokevirtual 58, 3) := by decide +kernel
theorem dX0_opposite_51 : decode cX0_opposite 51 = .ok (.istore 6, 2) := by decide +kernel
theorem dX0_opposite_53 : decode cX0_opposite 53 = .ok (.aload_n 0, 1) := by decide +kernel
theorem dX0_opposite_54 : decode cX0_opposite 54 = .ok (.getfield 19, 3) := by decide +kernel
theorem dX0_opposite_57 : decode cX0_opposite 57 = .ok (.iload_n 3, 1) := by decide +kernel
theorem dX0_opposite_58 : decode cX0_opposite 58 = .ok (.iconst 4, 1) := by decide +kernel
theorem dX0_opposite_59 : decode cX0_opposite 59 = .ok (.iload 4, 2) := by decide +kernel
theorem dX0_opposite_61 : decode cX0_opposite 61 = .ok (.imul, 1) := by decide +kernel
theorem dX0_opposite_62 : decode cX0_opposite 62 = .ok (.iload 6, 2) := by decide +kernel
theorem dX0_opposite_64 : decode cX0_opposite 64 = .ok (.isub, 1) := by decide +kernel
theorem dX0_opposite_65 : decode cX0_opposite 65 = .ok (.iload 5, 2) := by decide +kernel
theorem dX0_opposite_67 : decode cX0_opposite 67 = .ok (.isub, 1) := by decide +kernel
theorem dX0_opposite_68 : decode cX0_opposite 68 = .ok (.aload_n 0, 1) := by decide +kernel
theorem dX0_opposite_69 : decode cX0_opposite 69 = .ok (.aload_n 0, 1) := by decide +kernel
theorem dX0_opposite_70 : decode cX0_opposite 70 = .ok (.getfield 71, 3) := by decide +kernel
theorem dX0_opposite_73 : decode cX0_opposite 73 = .ok (.iload_n 3, 1) := by decide +kernel
theorem dX0_opposite_74 : decode cX0_opposite 74 = .ok (.invokevirtual 58, 3) := by decide +kernel
theorem dX0_opposite_77 : decode cX0_opposite 77 = .ok (.iadd, 1) := by decide +kernel
theorem dX0_opposite_78 : decode cX0_opposite 78 = .ok (.iastore, 1) := by decide +kernel
theorem dX0_opposite_79 : decode cX0_opposite 79 = .ok (.iinc 3 1, 3) := by decide +kernel
theorem dX0_opposite_82 : decode cX0_opposite 82 = .ok (.goto (-60), 3) := by decide +kernel
theorem dX0_opposite_85 : decode cX0_opposite 85 = .ok (.aload_n 0, 1) := by decide +kernel
theorem dX0_opposite_86 : decode cX0_opposite 86 = .ok (.invokevirtual 45, 3) := by decide +kernel
theorem dX0_opposite_89 : decode cX0_opposite 89 = .ok (.aload_n 0, 1) := by decide +kernel
theorem dX0_opposite_90 : decode cX0_opposite 90 = .ok (.invokevirtual 48, 3) := by decide +kernel
theorem dX0_opposite_93 : decode cX0_opposite 93 = .ok (.ireturn, 1) := by decide +kernel
abbrev cX0_groupSum : ByteArray := prog_1_method_21_code
def yX0_groupSum : MethodName := ⟨RX0, "groupSum", "(II)I"⟩
theorem dX0_groupSum_0 : decode cX0_groupSum 0 = .ok (.aload_n 0, 1) := by decide +kernel
theorem dX0_groupSum_1 : decode cX0_groupSum 1 = .ok (.iload_n 1, 1) := by decide +kernel
theorem dX0_groupSum_2 : decode cX0_groupSum 2 = .ok (.invokevirtual 55, 3) := by decide +kernel
theorem dX0_groupSum_5 : decode cX0_groupSum 5 = .ok (.ifCond .eq 11, 3) := by decide +kernel
theorem dX0_groupSum_8 : decode cX0_groupSum 8 = .ok (.aload_n 0, 1) := by decide +kernel
theorem dX0_groupSum_9 : decode cX0_groupSum 9 = .ok (.iload_n 2, 1) := by decide +kernel
theorem dX0_groupSum_10 : decode cX0_groupSum 10 = .ok (.invokevirtual 55, 3) := by decide +kernel
theorem dX0_groupSum_13 : decode cX0_groupSum 13 = .ok (.ifCond .ne 5, 3) := by decide +kernel
theorem dX0_groupSum_16 : decode cX0_groupSum 16 = .ok (.iconst (-1), 1) := by decide +kernel
theorem dX0_groupSum_17 : decode cX0_groupSum 17 = .ok (.ireturn, 1) := by decide +kernel
theorem dX0_groupSum_18 : decode cX0_groupSum 18 = .ok (.aload_n 0, 1) := by decide +kernel
theorem dX0_groupSum_19 : decode cX0_groupSum 19 = .ok (.iload_n 1, 1) := by decide +kernel
theorem dX0_groupSum_20 : decode cX0_groupSum 20 = .ok (.iload_n 2, 1) := by decide +kernel
theorem dX0_groupSum_21 : decode cX0_groupSum 21 = .ok (.invokevirtual 81, 3) := by decide +kernel
theorem dX0_groupSum_24 : decode cX0_groupSum 24 = .ok (.ireturn, 1) := by decide +kernel
abbrev cX0_added : ByteArray := prog_1_method_22_code
def yX0_added : MethodName := ⟨RX0, "added", "(II)I"⟩
theorem dX0_added_0 : decode cX0_added 0 = .ok (.iconst 0, 1) := by decide +kernel
theorem dX0_added_1 : decode cX0_added 1 = .ok (.istore_n 3, 1) := by decide +kernel
theorem dX0_added_2 : decode cX0_added 2 = .ok (.iload_n 3, 1) := by decide +kernel
theorem dX0_added_3 : decode cX0_added 3 = .ok (.iconst 4, 1) := by decide +kernel
theorem dX0_added_4 : decode cX0_added 4 = .ok (.if_icmp .ge 36, 3) := by decide +kernel
theorem dX0_added_7 : decode cX0_added 7 = .ok (.aload_n 0, 1) := by decide +kernel
theorem dX0_added_8 : decode cX0_added 8 = .ok (.iload_n 1, 1) := by decide +kernel
theorem dX0_added_9 : decode cX0_added 9 = .ok (.iload_n 3, 1) := by decide +kernel
theorem dX0_added_10 : decode cX0_added 10 = .ok (.invokevirtual 58, 3) := by decide +kernel
theorem dX0_added_13 : decode cX0_added 13 = .ok (.istore 4, 2) := by decide +kernel
theorem dX0_added_15 : decode cX0_added 15 = .ok (.aload_n 0, 1) := by decide +kernel
theorem dX0_added_16 : decode cX0_added 16 = .ok (.iload_n 2, 1) := by decide +kernel
theorem dX0_added_17 : decode cX0_added 17 = .ok (.iload_n 3, 1) := by decide +kernel
theorem dX0_added_18 : decode cX0_added 18 = .ok (.invokevirtual 58, 3) := by decide +kernel
theorem dX0_added_21 : decode cX0_added 21 = .ok (.istore 5, 2) := by decide +kernel
theorem dX0_added_23 : decode cX0_added 23 = .ok (.aload_n 0, 1) := by decide +kernel
theorem dX0_added_24 : decode cX0_added 24 = .ok (.getfield 19, 3) := by decide +kernel
theorem dX0_added_27 : decode cX0_added 27 = .ok (.iload_n 3, 1) := by decide +kernel
theorem dX0_added_28 : decode cX0_added 28 = .ok (.iload 4, 2) := by decide +kernel
theorem dX0_added_30 : decode cX0_added 30 = .ok (.iload 5, 2) := by decide +kernel
theorem dX0_added_32 : decode cX0_added 32 = .ok (.iadd, 1) := by decide +kernel
theorem dX0_added_33 : decode cX0_added 33 = .ok (.iastore, 1) := by decide +kernel
theorem dX0_added_34 : decode cX0_added 34 = .ok (.iinc 3 1, 3) := by decide +kernel
theorem dX0_added_37 : decode cX0_added 37 = .ok (.goto (-35), 3) := by decide +kernel
theorem dX0_added_40 : decode cX0_added 40 = .ok (.aload_n 0, 1) := by decide +kernel
theorem dX0_added_41 : decode cX0_added 41 = .ok (.invokevirtual 45, 3) := by decide +kernel
theorem dX0_added_44 : decode cX0_added 44 = .ok (.aload_n 0, 1) := by decide +kernel
theorem dX0_added_45 : decode cX0_added 45 = .ok (.invokevirtual 48, 3) := by decide +kernel
theorem dX0_added_48 : decode cX0_added 48 = .ok (.ireturn, 1) := by decide +kernel
abbrev cX0_orderOf : ByteArray := prog_1_method_24_code
def yX0_orderOf : MethodName := ⟨RX0, "orderOf", "(I)I"⟩
theorem dX0_orderOf_0 : decode cX0_orderOf 0 = .ok (.aload_n 0, 1) := by decide +kernel
theorem dX0_orderOf_1 : decode cX0_orderOf 1 = .ok (.iload_n 1, 1) := by decide +kernel
theorem dX0_orderOf_2 : decode cX0_orderOf 2 = .ok (.invokevirtual 74, 3) := by decide +kernel
theorem dX0_orderOf_5 : decode cX0_orderOf 5 = .ok (.ifCond .ne 5, 3) := by decide +kernel
theorem dX0_orderOf_8 : decode cX0_orderOf 8 = .ok (.iconst (-1), 1) := by decide +kernel
theorem dX0_orderOf_9 : decode cX0_orderOf 9 = .ok (.ireturn, 1) := by decide +kernel
theorem dX0_orderOf_10 : decode cX0_orderOf 10 = .ok (.aload_n 0, 1) := by decide +kernel
theorem dX0_orderOf_11 : decode cX0_orderOf 11 = .ok (.invokevirtual 65, 3) := by decide +kernel
theorem dX0_orderOf_14 : decode cX0_orderOf 14 = .ok (.aload_n 0, 1) := by decide +kernel
theorem dX0_orderOf_15 : decode cX0_orderOf 15 = .ok (.getfield 68, 3) := by decide +kernel
theorem dX0_orderOf_18 : decode cX0_orderOf 18 = .ok (.istore_n 2, 1) := by decide +kernel
theorem dX0_orderOf_19 : decode cX0_orderOf 19 = .ok (.aload_n 0, 1) := by decide +kernel
theorem dX0_orderOf_20 : decode cX0_orderOf 20 = .ok (.getfield 68, 3) := by decide +kernel
theorem dX0_orderOf_23 : decode cX0_orderOf 23 = .ok (.istore_n 3, 1) := by decide +kernel
theorem dX0_orderOf_24 : decode cX0_orderOf 24 = .ok (.iconst 2, 1) := by decide +kernel
theorem dX0_orderOf_25 : decode cX0_orderOf 25 = .ok (.istore 4, 2) := by decide +kernel
theorem dX0_orderOf_27 : decode cX0_orderOf 27 = .ok (.iload 4, 2) := by decide +kernel
theorem dX0_orderOf_29 : decode cX0_orderOf 29 = .ok (.iload_n 3, 1) := by decide +kernel
theorem dX0_orderOf_30 : decode cX0_orderOf 30 = .ok (.if_icmp .gt 49, 3) := by decide +kernel
theorem dX0_orderOf_33 : decode cX0_orderOf 33 = .ok (.iload_n 3, 1) := by decide +kernel
theorem dX0_orderOf_34 : decode cX0_orderOf 34 = .ok (.iload 4, 2) := by decide +kernel
theorem dX0_orderOf_36 : decode cX0_orderOf 36 = .ok (.irem, 1) := by decide +kernel
theorem dX0_orderOf_37 : decode cX0_orderOf 37 = .ok (.ifCond .ne 36, 3) := by decide +kernel
theorem dX0_orderOf_40 : decode cX0_orderOf 40 = .ok (.iload_n 3, 1) := by decide +kernel
theorem dX0_orderOf_41 : decode cX0_orderOf 41 = .ok (.iload 4, 2) := by decide +kernel
theorem dX0_orderOf_43 : decode cX0_orderOf 43 = .ok (.idiv, 1) := by decide +kernel
theorem dX0_orderOf_44 : decode cX0_orderOf 44 = .ok (.istore_n 3, 1) := by decide +kernel
theorem dX0_orderOf_45 : decode cX0_orderOf 45 = .ok (.aload_n 0, 1) := by decide +kernel
theorem dX0_orderOf_46 : decode cX0_orderOf 46 = .ok (.iload_n 1, 1) := by decide +kernel
theorem dX0_orderOf_47 : decode cX0_orderOf 47 = .ok (.iload_n 2, 1) := by decide +kernel
theorem dX0_orderOf_48 : decode cX0_orderOf 48 = .ok (.iload 4, 2) := by decide +kernel
theorem dX0_orderOf_50 : decode cX0_orderOf 50 = .ok (.idiv, 1) := by decide +kernel
theorem dX0_orderOf_51 : decode cX0_orderOf 51 = .ok (.invokevirtual 87, 3) := by decide +kernel
theorem dX0_orderOf_54 : decode cX0_orderOf 54 = .ok (.istore 5, 2) := by decide +kernel
theorem dX0_orderOf_56 : decode cX0_orderOf 56 = .ok (.iload 5, 2) := by decide +kernel
theorem dX0_orderOf_58 : decode cX0_orderOf 58 = .ok (.aload_n 0, 1) := by decide +kernel
theorem dX0_orderOf_59 : decode cX0_orderOf 59 = .ok (.getfield 71, 3) := by decide +kernel
theorem dX0_orderOf_62 : decode cX0_orderOf 62 = .ok (.if_icmp .ne 8, 3) := by decide +kernel
theorem dX0_orderOf_65 : decode cX0_orderOf 65 = .ok (.iload_n 2, 1) := by decide +kernel
theorem dX0_orderOf_66 : decode cX0_orderOf 66 = .ok (.iload 4, 2) := by decide +kernel
theorem dX0_orderOf_68 : decode cX0_orderOf 68 = .ok (.idiv, 1) := by decide +kernel
theorem dX0_orderOf_69 : decode cX0_orderOf 69 = .ok (.istore_n 2, 1) := by decide +kernel
theorem dX0_orderOf_70 : decode cX0_orderOf 70 = .ok (.goto (-37), 3) := by decide +kernel
theorem dX0_orderOf_73 : decode cX0_orderOf 73 = .ok (.iinc 4 1, 3) := by decide +kernel
theorem dX0_orderOf_76 : decode cX0_orderOf 76 = .ok (.goto (-49), 3) := by decide +kernel
theorem dX0_orderOf_79 : decode cX0_orderOf 79 = .ok (.iload_n 2, 1) := by decide +kernel
theorem dX0_orderOf_80 : decode cX0_orderOf 80 = .ok (.ireturn, 1) := by decide +kernel
abbrev cX0_timesState : ByteArray := prog_1_method_25_code
def yX0_timesState : MethodName := ⟨RX0, "timesState", "(II)I"⟩
theorem dX0_timesState_0 : decode cX0_timesState 0 = .ok (.iconst 0, 1) := by decide +kernel
theorem dX0_timesState_1 : decode cX0_timesState 1 = .ok (.istore_n 3, 1) := by decide +kernel
theorem dX0_timesState_2 : decode cX0_timesState 2 = .ok (.iload_n 3, 1) := by decide +kernel
theorem dX0_timesState_3 : decode cX0_timesState 3 = .ok (.iconst 4, 1) := by decide +kernel
theorem dX0_timesState_4 : decode cX0_timesState 4 = .ok (.if_icmp .ge 27, 3) := by decide +kernel
theorem dX0_timesState_7 : decode cX0_timesState 7 = .ok (.aload_n 0, 1) := by decide +kernel
theorem dX0_timesState_8 : decode cX0_timesState 8 = .ok (.iload_n 1, 1) := by decide +kernel
theorem dX0_timesState_9 : decode cX0_timesState 9 = .ok (.iload_n 3, 1) := by decide +kernel
theorem dX0_timesState_10 : decode cX0_timesState 10 = .ok (.invokevirtual 58, 3) := by decide +kernel
theorem dX0_timesState_13 : decode cX0_timesState 13 = .ok (.istore 4, 2) := by decide +kernel
theorem dX0_timesState_15 : decode cX0_timesState 15 = .ok (.aload_n 0, 1) := by decide +kernel
theorem dX0_timesState_16 : decode cX0_timesState 16 = .ok (.getfield 19, 3) := by decide +kernel
theorem dX0_timesState_19 : decode cX0_timesState 19 = .ok (.iload_n 3, 1) := by decide +kernel
theorem dX0_timesState_20 : decode cX0_timesState 20 = .ok (.iload_n 2, 1) := by decide +kernel
theorem dX0_timesState_21 : decode cX0_timesState 21 = .ok (.iload 4, 2) := by decide +kernel
theorem dX0_timesState_23 : decode cX0_timesState 23 = .ok (.imul, 1) := by decide +kernel
theorem dX0_timesState_24 : decode cX0_timesState 24 = .ok (.iastore, 1) := by decide +kernel
theorem dX0_timesState_25 : decode cX0_timesState 25 = .ok (.iinc 3 1, 3) := by decide +kernel
theorem dX0_timesState_28 : decode cX0_timesState 28 = .ok (.goto (-26), 3) := by decide +kernel
theorem dX0_timesState_31 : decode cX0_timesState 31 = .ok (.aload_n 0, 1) := by decide +kernel
theorem dX0_timesState_32 : decode cX0_timesState 32 = .ok (.invokevirtual 45, 3) := by decide +kernel
theorem dX0_timesState_35 : decode cX0_timesState 35 = .ok (.aload_n 0, 1) := by decide +kernel
theorem dX0_timesState_36 : decode cX0_timesState 36 = .ok (.invokevirtual 48, 3) := by decide +kernel
theorem dX0_timesState_39 : decode cX0_timesState 39 = .ok (.istore_n 3, 1) := by decide +kernel
theorem dX0_timesState_40 : decode cX0_timesState 40 = .ok (.aload_n 0, 1) := by decide +kernel
theorem dX0_timesState_41 : decode cX0_timesState 41 = .ok (.iload_n 3, 1) := by decide +kernel
theorem dX0_timesState_42 : decode cX0_timesState 42 = .ok (.aload_n 0, 1) := by decide +kernel
theorem dX0_timesState_43 : decode cX0_timesState 43 = .ok (.getfield 71, 3) := by decide +kernel
theorem dX0_timesState_46 : decode cX0_timesState 46 = .ok (.invokevirtual 81, 3) := by decide +kernel
theorem dX0_timesState_49 : decode cX0_timesState 49 = .ok (.ireturn, 1) := by decide +kernel
abbrev cX0_recurrentOf : ByteArray := prog_1_method_26_code
def yX0_recurrentOf : MethodName := ⟨RX0, "recurrentOf", "(I)I"⟩
theorem dX0_recurrentOf_0 : decode cX0_recurrentOf 0 = .ok (.aload_n 0, 1) := by decide +kernel
theorem dX0_recurrentOf_1 : decode cX0_recurrentOf 1 = .ok (.iload_n 1, 1) := by decide +kernel
theorem dX0_recurrentOf_2 : decode cX0_recurrentOf 2 = .ok (.invokevirtual 55, 3) := by decide +kernel
theorem dX0_recurrentOf_5 : decode cX0_recurrentOf 5 = .ok (.ifCond .ne 5, 3) := by decide +kernel
theorem dX0_recurrentOf_8 : decode cX0_recurrentOf 8 = .ok (.iconst (-1), 1) := by decide +kernel
theorem dX0_recurrentOf_9 : decode cX0_recurrentOf 9 = .ok (.ireturn, 1) := by decide +kernel
theorem dX0_recurrentOf_10 : decode cX0_recurrentOf 10 = .ok (.aload_n 0, 1) := by decide +kernel
theorem dX0_recurrentOf_11 : decode cX0_recurrentOf 11 = .ok (.invokevirtual 65, 3) := by decide +kernel
theorem dX0_recurrentOf_14 : decode cX0_recurrentOf 14 = .ok (.aload_n 0, 1) := by decide +kernel
theorem dX0_recurrentOf_15 : decode cX0_recurrentOf 15 = .ok (.iload_n 1, 1) := by decide +kernel
theorem dX0_recurrentOf_16 : decode cX0_recurrentOf 16 = .ok (.aload_n 0, 1) := by decide +kernel
theorem dX0_recurrentOf_17 : decode cX0_recurrentOf 17 = .ok (.getfield 71, 3) := by decide +kernel
theorem dX0_recurrentOf_20 : decode cX0_recurrentOf 20 = .ok (.invokevirtual 81, 3) := by decide +kernel
theorem dX0_recurrentOf_23 : decode cX0_recurrentOf 23 = .ok (.ireturn, 1) := by decide +kernel
theorem q30 : (Jvm.Cond.initialized "SandpileLab") ∈ lw_all := lw_g (lw_at lw_m1 1 rfl) rfl
theorem q33 : (Jvm.Cond.instantiable "SandpileLab" (10 : Nat)) ∈ lw_all := lw_g (lw_at lw_m1 4 rfl) rfl
theorem q35 : (Jvm.Cond.instanceMethod ({ cls := "SandpileLab", name := "<init>", desc := "()V" } : Jvm.MethodName)) ∈ lw_all := lw_g (lw_at lw_m1 6 rfl) rfl
theorem q36 : (Jvm.Cond.code ({ cls := "SandpileLab", name := "<init>", desc := "()V" } : Jvm.MethodName) prog_1_method_1_code (2 : Nat) (Option.none : Option Jvm.ClassFile.FieldType)) ∈ lw_all := lw_g (lw_at lw_m1 7 rfl) rfl
theorem q37 : (Jvm.Cond.methodLink "SandpileLab" (1 : Nat) ({ cls := "java/lang/Object", name := "<init>", desc := "()V" } : Jvm.MethodName)) ∈ lw_all := lw_g (lw_at lw_m1 8 rfl) rfl
theorem q40 : (Jvm.Cond.fieldLink "SandpileLab" (7 : Nat) "SandpileLab" "neighbours" "[B") ∈ lw_all := lw_g (lw_at lw_m1 11 rfl) rfl
theorem q41 : (Jvm.Cond.fieldLink "SandpileLab" (13 : Nat) "SandpileLab" "toSink" "[B") ∈ lw_all := lw_g (lw_at lw_m1 12 rfl) rfl
theorem q42 : (Jvm.Cond.fieldLink "SandpileLab" (16 : Nat) "SandpileLab" "degrees" "[B") ∈ lw_all := lw_g (lw_at lw_m1 13 rfl) rfl
theorem q43 : (Jvm.Cond.fieldLink "SandpileLab" (19 : Nat) "SandpileLab" "grains" "[I") ∈ lw_all := lw_g (lw_at lw_m1 14 rfl) rfl
theorem q44 : (Jvm.Cond.fieldLink "SandpileLab" (33 : Nat) "SandpileLab" "kept" "I") ∈ lw_all := lw_g (lw_at lw_m1 15 rfl) rfl
theorem q45 : (Jvm.Cond.fieldLink "SandpileLab" (52 : Nat) "SandpileLab" "topplings" "I") ∈ lw_all := lw_g (lw_at lw_m1 16 rfl) rfl
theorem q46 : (Jvm.Cond.fieldLink "SandpileLab" (37 : Nat) "SandpileLab" "known" "Z") ∈ lw_all := lw_g (lw_at lw_m1 17 rfl) rfl
theorem q47 : (Jvm.Cond.fieldLink "SandpileLab" (68 : Nat) "SandpileLab" "groupOrder" "I") ∈ lw_all := lw_g (lw_at lw_m1 18 rfl) rfl
theorem q48 : (Jvm.Cond.fieldLink "SandpileLab" (71 : Nat) "SandpileLab" "neutralState" "I") ∈ lw_all := lw_g (lw_at lw_m1 19 rfl) rfl
theorem q49 : (Jvm.Cond.fieldLink "SandpileLab" (23 : Nat) "SandpileLab" "matrix" "[I") ∈ lw_all := lw_g (lw_at lw_m1 20 rfl) rfl
theorem q50 : (Jvm.Cond.laysFinal "SandpileLab" "SandpileLab" "neighbours" "[B") ∈ lw_all := lw_g (lw_at lw_m1 21 rfl) rfl
theorem q51 : (Jvm.Cond.soleField "SandpileLab" "neighbours") ∈ lw_all := lw_g (lw_at lw_m1 22 rfl) rfl
theorem q52 : (Jvm.Cond.laysFinal "SandpileLab" "SandpileLab" "toSink" "[B") ∈ lw_all := lw_g (lw_at lw_m1 23 rfl) rfl
theorem q53 : (Jvm.Cond.soleField "SandpileLab" "toSink") ∈ lw_all := lw_g (lw_at lw_m1 24 rfl) rfl
theorem q54 : (Jvm.Cond.laysFinal "SandpileLab" "SandpileLab" "degrees" "[B") ∈ lw_all := lw_g (lw_at lw_m1 25 rfl) rfl
theorem q55 : (Jvm.Cond.soleField "SandpileLab" "degrees") ∈ lw_all := lw_g (lw_at lw_m1 26 rfl) rfl
theorem q56 : (Jvm.Cond.laysFinal "SandpileLab" "SandpileLab" "grains" "[I") ∈ lw_all := lw_g (lw_at lw_m1 27 rfl) rfl
theorem q57 : (Jvm.Cond.soleField "SandpileLab" "grains") ∈ lw_all := lw_g (lw_at lw_m1 28 rfl) rfl
theorem q58 : (Jvm.Cond.lays "SandpileLab" "SandpileLab" "kept" "I") ∈ lw_all := lw_g (lw_at lw_m1 29 rfl) rfl
theorem q59 : (Jvm.Cond.soleField "SandpileLab" "kept") ∈ lw_all := lw_g (lw_at lw_m1 30 rfl) rfl
theorem q60 : (Jvm.Cond.lays "SandpileLab" "SandpileLab" "topplings" "I") ∈ lw_all := lw_g (lw_at lw_m1 31 rfl) rfl
theorem q61 : (Jvm.Cond.soleField "SandpileLab" "topplings") ∈ lw_all := lw_g (lw_at lw_m1 32 rfl) rfl
theorem q62 : (Jvm.Cond.lays "SandpileLab" "SandpileLab" "known" "Z") ∈ lw_all := lw_g (lw_at lw_m1 33 rfl) rfl
theorem q63 : (Jvm.Cond.soleField "SandpileLab" "known") ∈ lw_all := lw_g (lw_at lw_m1 34 rfl) rfl
theorem q64 : (Jvm.Cond.lays "SandpileLab" "SandpileLab" "groupOrder" "I") ∈ lw_all := lw_g (lw_at lw_m1 35 rfl) rfl
theorem q65 : (Jvm.Cond.soleField "SandpileLab" "groupOrder") ∈ lw_all := lw_g (lw_at lw_m1 36 rfl) rfl
theorem q66 : (Jvm.Cond.lays "SandpileLab" "SandpileLab" "neutralState" "I") ∈ lw_all := lw_g (lw_at lw_m1 37 rfl) rfl
theorem q67 : (Jvm.Cond.soleField "SandpileLab" "neutralState") ∈ lw_all := lw_g (lw_at lw_m1 38 rfl) rfl
theorem q68 : (Jvm.Cond.laysFinal "SandpileLab" "SandpileLab" "matrix" "[I") ∈ lw_all := lw_g (lw_at lw_m1 39 rfl) rfl
theorem q69 : (Jvm.Cond.soleField "SandpileLab" "matrix") ∈ lw_all := lw_g (lw_at lw_m1 40 rfl) rfl
theorem q70 : (Jvm.Cond.superclass "SandpileLab" "java/lang/Object") ∈ lw_all := lw_g (lw_at lw_m1 41 rfl) rfl
theorem q74 : (Jvm.Cond.instanceMethod ({ cls := "SandpileLab", name := "edge", desc := "(IIZ)Z" } : Jvm.MethodName)) ∈ lw_all := lw_g (lw_at lw_m1 45 rfl) rfl
theorem q75 : (Jvm.Cond.selects "SandpileLab" ({ cls := "SandpileLab", name := "edge", desc := "(IIZ)Z" } : Jvm.MethodName) ({ cls := "SandpileLab", name := "edge", desc := "(IIZ)Z" } : Jvm.MethodName)) ∈ lw_all := lw_g (lw_at lw_m1 46 rfl) rfl
theorem q76 : (Jvm.Cond.code ({ cls := "SandpileLab", name := "edge", desc := "(IIZ)Z" } : Jvm.MethodName) prog_1_method_2_code (4 : Nat) (Option.some Jvm.ClassFile.FieldType.boolean)) ∈ lw_all := lw_g (lw_at lw_m1 47 rfl) rfl
theorem q77 : (Jvm.Cond.methodLink "SandpileLab" (26 : Nat) ({ cls := "SandpileLab", name := "isPlace", desc := "(I)Z" } : Jvm.MethodName)) ∈ lw_all := lw_g (lw_at lw_m1 48 rfl) rfl
theorem q78 : (Jvm.Cond.privateMethod ({ cls := "SandpileLab", name := "isPlace", desc := "(I)Z" } : Jvm.MethodName)) ∈ lw_tbl := lw_at lw_m1 49 rfl
theorem q79 : (Jvm.Cond.instanceMethod ({ cls := "SandpileLab", name := "isPlace", desc := "(I)Z" } : Jvm.MethodName)) ∈ lw_all := lw_g (lw_at lw_m1 50 rfl) rfl
theorem q80 : (Jvm.Cond.code ({ cls := "SandpileLab", name := "isPlace", desc := "(I)Z" } : Jvm.MethodName) prog_1_method_5_code (2 : Nat) (Option.some Jvm.ClassFile.FieldType.boolean)) ∈ lw_all := lw_g (lw_at lw_m1 51 rfl) rfl
theorem q81 : (Jvm.Cond.methodLink "SandpileLab" (30 : Nat) ({ cls := "SandpileLab", name := "changeGraph", desc := "()V" } : Jvm.MethodName)) ∈ lw_all := lw_g (lw_at lw_m1 52 rfl) rfl
theorem q82 : (Jvm.Cond.privateMethod ({ cls := "SandpileLab", name := "changeGraph", desc := "()V" } : Jvm.MethodName)) ∈ lw_tbl := lw_at lw_m1 53 rfl
theorem q83 : (Jvm.Cond.instanceMethod ({ cls := "SandpileLab", name := "changeGraph", desc := "()V" } : Jvm.MethodName)) ∈ lw_all := lw_g (lw_at lw_m1 54 rfl) rfl
theorem q84 : (Jvm.Cond.code ({ cls := "SandpileLab", name := "changeGraph", desc := "()V" } : Jvm.MethodName) prog_1_method_4_code (4 : Nat) (Option.none : Option Jvm.ClassFile.FieldType)) ∈ lw_all := lw_g (lw_at lw_m1 55 rfl) rfl
theorem q86 : (Jvm.Cond.instanceMethod ({ cls := "SandpileLab", name := "sink", desc := "(II)Z" } : Jvm.MethodName)) ∈ lw_all := lw_g (lw_at lw_m1 57 rfl) rfl
theorem q87 : (Jvm.Cond.selects "SandpileLab" ({ cls := "SandpileLab", name := "sink", desc := "(II)Z" } : Jvm.MethodName) ({ cls := "SandpileLab", name := "sink", desc := "(II)Z" } : Jvm.MethodName)) ∈ lw_all := lw_g (lw_at lw_m1 58 rfl) rfl
theorem q88 : (Jvm.Cond.code ({ cls := "SandpileLab", name := "sink", desc := "(II)Z" } : Jvm.MethodName) prog_1_method_3_code (3 : Nat) (Option.some Jvm.ClassFile.FieldType.boolean)) ∈ lw_all := lw_g (lw_at lw_m1 59 rfl) rfl
theorem q90 : (Jvm.Cond.instanceMethod ({ cls := "SandpileLab", name := "drop", desc := "(II)I" } : Jvm.MethodName)) ∈ lw_all := lw_g (lw_at lw_m1 61 rfl) rfl
theorem q91 : (Jvm.Cond.selects "SandpileLab" ({ cls := "SandpileLab", name := "drop", desc := "(II)I" } : Jvm.MethodName) ({ cls := "SandpileLab", name := "drop", desc := "(II)I" } : Jvm.MethodName)) ∈ lw_all := lw_g (lw_at lw_m1 62 rfl) rfl
theorem q92 : (Jvm.Cond.code ({ cls := "SandpileLab", name := "drop", desc := "(II)I" } : Jvm.MethodName) prog_1_method_6_code (3 : Nat) (Option.some Jvm.ClassFile.FieldType.int)) ∈ lw_all := lw_g (lw_at lw_m1 63 rfl) rfl
theorem q93 : (Jvm.Cond.methodLink "SandpileLab" (41 : Nat) ({ cls := "SandpileLab", name := "load", desc := "(I)V" } : Jvm.MethodName)) ∈ lw_all := lw_g (lw_at lw_m1 64 rfl) rfl
theorem q94 : (Jvm.Cond.privateMethod ({ cls := "SandpileLab", name := "load", desc := "(I)V" } : Jvm.MethodName)) ∈ lw_tbl := lw_at lw_m1 65 rfl
theorem q95 : (Jvm.Cond.instanceMethod ({ cls := "SandpileLab", name := "load", desc := "(I)V" } : Jvm.MethodName)) ∈ lw_all := lw_g (lw_at lw_m1 66 rfl) rfl
theorem q96 : (Jvm.Cond.code ({ cls := "SandpileLab", name := "load", desc := "(I)V" } : Jvm.MethodName) prog_1_method_12_code (3 : Nat) (Option.none : Option Jvm.ClassFile.FieldType)) ∈ lw_all := lw_g (lw_at lw_m1 67 rfl) rfl
theorem q97 : (Jvm.Cond.methodLink "SandpileLab" (58 : Nat) ({ cls := "SandpileLab", name := "digit", desc := "(II)I" } : Jvm.MethodName)) ∈ lw_all := lw_g (lw_at lw_m1 68 rfl) rfl
theorem q98 : (Jvm.Cond.privateMethod ({ cls := "SandpileLab", name := "digit", desc := "(II)I" } : Jvm.MethodName)) ∈ lw_tbl := lw_at lw_m1 69 rfl
theorem q99 : (Jvm.Cond.instanceMethod ({ cls := "SandpileLab", name := "digit", desc := "(II)I" } : Jvm.MethodName)) ∈ lw_all := lw_g (lw_at lw_m1 70 rfl) rfl
theorem q100 : (Jvm.Cond.code ({ cls := "SandpileLab", name := "digit", desc := "(II)I" } : Jvm.MethodName) prog_1_method_10_code (3 : Nat) (Option.some Jvm.ClassFile.FieldType.int)) ∈ lw_all := lw_g (lw_at lw_m1 71 rfl) rfl
theorem q101 : (Jvm.Cond.methodLink "SandpileLab" (45 : Nat) ({ cls := "SandpileLab", name := "settle", desc := "()V" } : Jvm.MethodName)) ∈ lw_all := lw_g (lw_at lw_m1 72 rfl) rfl
theorem q102 : (Jvm.Cond.privateMethod ({ cls := "SandpileLab", name := "settle", desc := "()V" } : Jvm.MethodName)) ∈ lw_tbl := lw_at lw_m1 73 rfl
theorem q103 : (Jvm.Cond.instanceMethod ({ cls := "SandpileLab", name := "settle", desc := "()V" } : Jvm.MethodName)) ∈ lw_all := lw_g (lw_at lw_m1 74 rfl) rfl
theorem q104 : (Jvm.Cond.code ({ cls := "SandpileLab", name := "settle", desc := "()V" } : Jvm.MethodName) prog_1_method_14_code (5 : Nat) (Option.none : Option Jvm.ClassFile.FieldType)) ∈ lw_all := lw_g (lw_at lw_m1 75 rfl) rfl
theorem q105 : (Jvm.Cond.methodLink "SandpileLab" (48 : Nat) ({ cls := "SandpileLab", name := "packed", desc := "()I" } : Jvm.MethodName)) ∈ lw_all := lw_g (lw_at lw_m1 76 rfl) rfl
theorem q106 : (Jvm.Cond.privateMethod ({ cls := "SandpileLab", name := "packed", desc := "()I" } : Jvm.MethodName)) ∈ lw_tbl := lw_at lw_m1 77 rfl
theorem q107 : (Jvm.Cond.instanceMethod ({ cls := "SandpileLab", name := "packed", desc := "()I" } : Jvm.MethodName)) ∈ lw_all := lw_g (lw_at lw_m1 78 rfl) rfl
theorem q108 : (Jvm.Cond.code ({ cls := "SandpileLab", name := "packed", desc := "()I" } : Jvm.MethodName) prog_1_method_13_code (3 : Nat) (Option.some Jvm.ClassFile.FieldType.int)) ∈ lw_all := lw_g (lw_at lw_m1 79 rfl) rfl
theorem q110 : (Jvm.Cond.instanceMethod ({ cls := "SandpileLab", name := "state", desc := "()I" } : Jvm.MethodName)) ∈ lw_all := lw_g (lw_at lw_m1 81 rfl) rfl
theorem q111 : (Jvm.Cond.selects "SandpileLab" ({ cls := "SandpileLab", name := "state", desc := "()I" } : Jvm.MethodName) ({ cls := "SandpileLab", name := "state", desc := "()I" } : Jvm.MethodName)) ∈ lw_all := lw_g (lw_at lw_m1 82 rfl) rfl
theorem q112 : (Jvm.Cond.code ({ cls := "SandpileLab", name := "state", desc := "()I" } : Jvm.MethodName) prog_1_method_7_code (1 : Nat) (Option.some Jvm.ClassFile.FieldType.int)) ∈ lw_all := lw_g (lw_at lw_m1 83 rfl) rfl
theorem q114 : (Jvm.Cond.instanceMethod ({ cls := "SandpileLab", name := "set", desc := "(I)Z" } : Jvm.MethodName)) ∈ lw_all := lw_g (lw_at lw_m1 85 rfl) rfl
theorem q115 : (Jvm.Cond.selects "SandpileLab" ({ cls := "SandpileLab", name := "set", desc := "(I)Z" } : Jvm.MethodName) ({ cls := "SandpileLab", name := "set", desc := "(I)Z" } : Jvm.MethodName)) ∈ lw_all := lw_g (lw_at lw_m1 86 rfl) rfl
theorem q116 : (Jvm.Cond.code ({ cls := "SandpileLab", name := "set", desc := "(I)Z" } : Jvm.MethodName) prog_1_method_8_code (2 : Nat) (Option.some Jvm.ClassFile.FieldType.boolean)) ∈ lw_all := lw_g (lw_at lw_m1 87 rfl) rfl
theorem q117 : (Jvm.Cond.methodLink "SandpileLab" (55 : Nat) ({ cls := "SandpileLab", name := "isStable", desc := "(I)Z" } : Jvm.MethodName)) ∈ lw_all := lw_g (lw_at lw_m1 88 rfl) rfl
theorem q118 : (Jvm.Cond.privateMethod ({ cls := "SandpileLab", name := "isStable", desc := "(I)Z" } : Jvm.MethodName)) ∈ lw_tbl := lw_at lw_m1 89 rfl
theorem q119 : (Jvm.Cond.instanceMethod ({ cls := "SandpileLab", name := "isStable", desc := "(I)Z" } : Jvm.MethodName)) ∈ lw_all := lw_g (lw_at lw_m1 90 rfl) rfl
theorem q120 : (Jvm.Cond.code ({ cls := "SandpileLab", name := "isStable", desc := "(I)Z" } : Jvm.MethodName) prog_1_method_11_code (3 : Nat) (Option.some Jvm.ClassFile.FieldType.boolean)) ∈ lw_all := lw_g (lw_at lw_m1 91 rfl) rfl
theorem q122 : (Jvm.Cond.instanceMethod ({ cls := "SandpileLab", name := "degree", desc := "(I)I" } : Jvm.MethodName)) ∈ lw_all := lw_g (lw_at lw_m1 93 rfl) rfl
theorem q123 : (Jvm.Cond.selects "SandpileLab" ({ cls := "SandpileLab", name := "degree", desc := "(I)I" } : Jvm.MethodName) ({ cls := "SandpileLab", name := "degree", desc := "(I)I" } : Jvm.MethodName)) ∈ lw_all := lw_g (lw_at lw_m1 94 rfl) rfl
theorem q124 : (Jvm.Cond.code ({ cls := "SandpileLab", name := "degree", desc := "(I)I" } : Jvm.MethodName) prog_1_method_9_code (2 : Nat) (Option.some Jvm.ClassFile.FieldType.int)) ∈ lw_all := lw_g (lw_at lw_m1 95 rfl) rfl
theorem q126 : (Jvm.Cond.instanceMethod ({ cls := "SandpileLab", name := "recurrent", desc := "(I)Z" } : Jvm.MethodName)) ∈ lw_all := lw_g (lw_at lw_m1 97 rfl) rfl
theorem q127 : (Jvm.Cond.selects "SandpileLab" ({ cls := "SandpileLab", name := "recurrent", desc := "(I)Z" } : Jvm.MethodName) ({ cls := "SandpileLab", name := "recurrent", desc := "(I)Z" } : Jvm.MethodName)) ∈ lw_all := lw_g (lw_at lw_m1 98 rfl) rfl
theorem q128 : (Jvm.Cond.code ({ cls := "SandpileLab", name := "recurrent", desc := "(I)Z" } : Jvm.MethodName) prog_1_method_16_code (2 : Nat) (Option.some Jvm.ClassFile.FieldType.boolean)) ∈ lw_all := lw_g (lw_at lw_m1 99 rfl) rfl
theorem q129 : (Jvm.Cond.methodLink "SandpileLab" (62 : Nat) ({ cls := "SandpileLab", name := "burns", desc := "(I)Z" } : Jvm.MethodName)) ∈ lw_all := lw_g (lw_at lw_m1 100 rfl) rfl
theorem q130 : (Jvm.Cond.privateMethod ({ cls := "SandpileLab", name := "burns", desc := "(I)Z" } : Jvm.MethodName)) ∈ lw_tbl := lw_at lw_m1 101 rfl
theorem q131 : (Jvm.Cond.instanceMethod ({ cls := "SandpileLab", name := "burns", desc := "(I)Z" } : Jvm.MethodName)) ∈ lw_all := lw_g (lw_at lw_m1 102 rfl) rfl
theorem q132 : (Jvm.Cond.code ({ cls := "SandpileLab", name := "burns", desc := "(I)Z" } : Jvm.MethodName) prog_1_method_15_code (8 : Nat) (Option.some Jvm.ClassFile.FieldType.boolean)) ∈ lw_all := lw_g (lw_at lw_m1 103 rfl) rfl
theorem q134 : (Jvm.Cond.instanceMethod ({ cls := "SandpileLab", name := "order", desc := "()I" } : Jvm.MethodName)) ∈ lw_all := lw_g (lw_at lw_m1 105 rfl) rfl
theorem q135 : (Jvm.Cond.selects "SandpileLab" ({ cls := "SandpileLab", name := "order", desc := "()I" } : Jvm.MethodName) ({ cls := "SandpileLab", name := "order", desc := "()I" } : Jvm.MethodName)) ∈ lw_all := lw_g (lw_at lw_m1 106 rfl) rfl
theorem q136 : (Jvm.Cond.code ({ cls := "SandpileLab", name := "order", desc := "()I" } : Jvm.MethodName) prog_1_method_17_code (1 : Nat) (Option.some Jvm.ClassFile.FieldType.int)) ∈ lw_all := lw_g (lw_at lw_m1 107 rfl) rfl
theorem q137 : (Jvm.Cond.methodLink "SandpileLab" (65 : Nat) ({ cls := "SandpileLab", name := "learn", desc := "()V" } : Jvm.MethodName)) ∈ lw_all := lw_g (lw_at lw_m1 108 rfl) rfl
theorem q138 : (Jvm.Cond.privateMethod ({ cls := "SandpileLab", name := "learn", desc := "()V" } : Jvm.MethodName)) ∈ lw_tbl := lw_at lw_m1 109 rfl
theorem q139 : (Jvm.Cond.instanceMethod ({ cls := "SandpileLab", name := "learn", desc := "()V" } : Jvm.MethodName)) ∈ lw_all := lw_g (lw_at lw_m1 110 rfl) rfl
theorem q140 : (Jvm.Cond.code ({ cls := "SandpileLab", name := "learn", desc := "()V" } : Jvm.MethodName) prog_1_method_23_code (4 : Nat) (Option.none : Option Jvm.ClassFile.FieldType)) ∈ lw_all := lw_g (lw_at lw_m1 111 rfl) rfl
theorem q141 : (Jvm.Cond.methodLink "SandpileLab" (84 : Nat) ({ cls := "SandpileLab", name := "determinant", desc := "()I" } : Jvm.MethodName)) ∈ lw_all := lw_g (lw_at lw_m1 112 rfl) rfl
theorem q142 : (Jvm.Cond.privateMethod ({ cls := "SandpileLab", name := "determinant", desc := "()I" } : Jvm.MethodName)) ∈ lw_tbl := lw_at lw_m1 113 rfl
theorem q143 : (Jvm.Cond.instanceMethod ({ cls := "SandpileLab", name := "determinant", desc := "()I" } : Jvm.MethodName)) ∈ lw_all := lw_g (lw_at lw_m1 114 rfl) rfl
theorem q144 : (Jvm.Cond.code ({ cls := "SandpileLab", name := "determinant", desc := "()I" } : Jvm.MethodName) prog_1_method_27_code (4 : Nat) (Option.some Jvm.ClassFile.FieldType.int)) ∈ lw_all := lw_g (lw_at lw_m1 115 rfl) rfl
theorem q145 : (Jvm.Cond.methodLink "SandpileLab" (90 : Nat) ({ cls := "SandpileLab", name := "reduce", desc := "(III)V" } : Jvm.MethodName)) ∈ lw_all := lw_g (lw_at lw_m1 116 rfl) rfl
theorem q146 : (Jvm.Cond.privateMethod ({ cls := "SandpileLab", name := "reduce", desc := "(III)V" } : Jvm.MethodName)) ∈ lw_tbl := lw_at lw_m1 117 rfl
theorem q147 : (Jvm.Cond.instanceMethod ({ cls := "SandpileLab", name := "reduce", desc := "(III)V" } : Jvm.MethodName)) ∈ lw_all := lw_g (lw_at lw_m1 118 rfl) rfl
theorem q148 : (Jvm.Cond.code ({ cls := "SandpileLab", name := "reduce", desc := "(III)V" } : Jvm.MethodName) prog_1_method_28_code (7 : Nat) (Option.none : Option Jvm.ClassFile.FieldType)) ∈ lw_all := lw_g (lw_at lw_m1 119 rfl) rfl
theorem q149 : (Jvm.Cond.methodLink "SandpileLab" (77 : Nat) ({ cls := "SandpileLab", name := "settledMultiple", desc := "(I)I" } : Jvm.MethodName)) ∈ lw_all := lw_g (lw_at lw_m1 120 rfl) rfl
theorem q150 : (Jvm.Cond.privateMethod ({ cls := "SandpileLab", name := "settledMultiple", desc := "(I)I" } : Jvm.MethodName)) ∈ lw_tbl := lw_at lw_m1 121 rfl
theorem q151 : (Jvm.Cond.instanceMethod ({ cls := "SandpileLab", name := "settledMultiple", desc := "(I)I" } : Jvm.MethodName)) ∈ lw_all := lw_g (lw_at lw_m1 122 rfl) rfl
theorem q152 : (Jvm.Cond.code ({ cls := "SandpileLab", name := "settledMultiple", desc := "(I)I" } : Jvm.MethodName) prog_1_method_20_code (3 : Nat) (Option.some Jvm.ClassFile.FieldType.int)) ∈ lw_all := lw_g (lw_at lw_m1 123 rfl) rfl
theorem q154 : (Jvm.Cond.instanceMethod ({ cls := "SandpileLab", name := "neutral", desc := "()I" } : Jvm.MethodName)) ∈ lw_all := lw_g (lw_at lw_m1 125 rfl) rfl
theorem q155 : (Jvm.Cond.selects "SandpileLab" ({ cls := "SandpileLab", name := "neutral", desc := "()I" } : Jvm.MethodName) ({ cls := "SandpileLab", name := "neutral", desc := "()I" } : Jvm.MethodName)) ∈ lw_all := lw_g (lw_at lw_m1 126 rfl) rfl
theorem q156 : (Jvm.Cond.code ({ cls := "SandpileLab", name := "neutral", desc := "()I" } : Jvm.MethodName) prog_1_method_18_code (1 : Nat) (Option.some Jvm.ClassFile.FieldType.int)) ∈ lw_all := lw_g (lw_at lw_m1 127 rfl) rfl
theorem q158 : (Jvm.Cond.instanceMethod ({ cls := "SandpileLab", name := "opposite", desc := "(I)I" } : Jvm.MethodName)) ∈ lw_all := lw_g (lw_at lw_m1 129 rfl) rfl
theorem q159 : (Jvm.Cond.selects "SandpileLab" ({ cls := "SandpileLab", name := "opposite", desc := "(I)I" } : Jvm.MethodName) ({ cls := "SandpileLab", name := "opposite", desc := "(I)I" } : Jvm.MethodName)) ∈ lw_all := lw_g (lw_at lw_m1 130 rfl) rfl
theorem q160 : (Jvm.Cond.code ({ cls := "SandpileLab", name := "opposite", desc := "(I)I" } : Jvm.MethodName) prog_1_method_19_code (7 : Nat) (Option.some Jvm.ClassFile.FieldType.int)) ∈ lw_all := lw_g (lw_at lw_m1 131 rfl) rfl
theorem q161 : (Jvm.Cond.methodLink "SandpileLab" (74 : Nat) ({ cls := "SandpileLab", name := "recurrent", desc := "(I)Z" } : Jvm.MethodName)) ∈ lw_all := lw_g (lw_at lw_m1 132 rfl) rfl
theorem q163 : (Jvm.Cond.instanceMethod ({ cls := "SandpileLab", name := "groupSum", desc := "(II)I" } : Jvm.MethodName)) ∈ lw_all := lw_g (lw_at lw_m1 134 rfl) rfl
theorem q164 : (Jvm.Cond.selects "SandpileLab" ({ cls := "SandpileLab", name := "groupSum", desc := "(II)I" } : Jvm.MethodName) ({ cls := "SandpileLab", name := "groupSum", desc := "(II)I" } : Jvm.MethodName)) ∈ lw_all := lw_g (lw_at lw_m1 135 rfl) rfl
theorem q165 : (Jvm.Cond.code ({ cls := "SandpileLab", name := "groupSum", desc := "(II)I" } : Jvm.MethodName) prog_1_method_21_code (3 : Nat) (Option.some Jvm.ClassFile.FieldType.int)) ∈ lw_all := lw_g (lw_at lw_m1 136 rfl) rfl
theorem q166 : (Jvm.Cond.methodLink "SandpileLab" (81 : Nat) ({ cls := "SandpileLab", name := "added", desc := "(II)I" } : Jvm.MethodName)) ∈ lw_all := lw_g (lw_at lw_m1 137 rfl) rfl
theorem q167 : (Jvm.Cond.privateMethod ({ cls := "SandpileLab", name := "added", desc := "(II)I" } : Jvm.MethodName)) ∈ lw_tbl := lw_at lw_m1 138 rfl
theorem q168 : (Jvm.Cond.instanceMethod ({ cls := "SandpileLab", name := "added", desc := "(II)I" } : Jvm.MethodName)) ∈ lw_all := lw_g (lw_at lw_m1 139 rfl) rfl
theorem q169 : (Jvm.Cond.code ({ cls := "SandpileLab", name := "added", desc := "(II)I" } : Jvm.MethodName) prog_1_method_22_code (6 : Nat) (Option.some Jvm.ClassFile.FieldType.int)) ∈ lw_all := lw_g (lw_at lw_m1 140 rfl) rfl
theorem q171 : (Jvm.Cond.instanceMethod ({ cls := "SandpileLab", name := "orderOf", desc := "(I)I" } : Jvm.MethodName)) ∈ lw_all := lw_g (lw_at lw_m1 142 rfl) rfl
theorem q172 : (Jvm.Cond.selects "SandpileLab" ({ cls := "SandpileLab", name := "orderOf", desc := "(I)I" } : Jvm.MethodName) ({ cls := "SandpileLab", name := "orderOf", desc := "(I)I" } : Jvm.MethodName)) ∈ lw_all := lw_g (lw_at lw_m1 143 rfl) rfl
theorem q173 : (Jvm.Cond.code ({ cls := "SandpileLab", name := "orderOf", desc := "(I)I" } : Jvm.MethodName) prog_1_method_24_code (6 : Nat) (Option.some Jvm.ClassFile.FieldType.int)) ∈ lw_all := lw_g (lw_at lw_m1 144 rfl) rfl
theorem q174 : (Jvm.Cond.methodLink "SandpileLab" (87 : Nat) ({ cls := "SandpileLab", name := "timesState", desc := "(II)I" } : Jvm.MethodName)) ∈ lw_all := lw_g (lw_at lw_m1 145 rfl) rfl
theorem q175 : (Jvm.Cond.privateMethod ({ cls := "SandpileLab", name := "timesState", desc := "(II)I" } : Jvm.MethodName)) ∈ lw_tbl := lw_at lw_m1 146 rfl
theorem q176 : (Jvm.Cond.instanceMethod ({ cls := "SandpileLab", name := "timesState", desc := "(II)I" } : Jvm.MethodName)) ∈ lw_all := lw_g (lw_at lw_m1 147 rfl) rfl
theorem q177 : (Jvm.Cond.code ({ cls := "SandpileLab", name := "timesState", desc := "(II)I" } : Jvm.MethodName) prog_1_method_25_code (5 : Nat) (Option.some Jvm.ClassFile.FieldType.int)) ∈ lw_all := lw_g (lw_at lw_m1 148 rfl) rfl
theorem q179 : (Jvm.Cond.instanceMethod ({ cls := "SandpileLab", name := "recurrentOf", desc := "(I)I" } : Jvm.MethodName)) ∈ lw_all := lw_g (lw_at lw_m1 150 rfl) rfl
theorem q180 : (Jvm.Cond.selects "SandpileLab" ({ cls := "SandpileLab", name := "recurrentOf", desc := "(I)I" } : Jvm.MethodName) ({ cls := "SandpileLab", name := "recurrentOf", desc := "(I)I" } : Jvm.MethodName)) ∈ lw_all := lw_g (lw_at lw_m1 151 rfl) rfl
theorem q181 : (Jvm.Cond.code ({ cls := "SandpileLab", name := "recurrentOf", desc := "(I)I" } : Jvm.MethodName) prog_1_method_26_code (2 : Nat) (Option.some Jvm.ClassFile.FieldType.int)) ∈ lw_all := lw_g (lw_at lw_m1 152 rfl) rfl
theorem in_X0 : ∀ w ∈ wsX00, w ∈ lw_all := lw_in wsX00 [50, 52, 54, 56, 58, 60, 62, 64, 66, 68] (by decide +kernel) (by decide +kernel)
end
section
/-! SandpileLabModel -/
set_option maxRecDepth 100000
def RX1 : String := "SandpileLabModel"
def TX1 : u_T := fun k => match k with
  | 0 => ("SandpileLabModel", "near", "[I", false)
  | 1 => ("SandpileLabModel", "sinks", "[I", false)
  | 2 => ("SandpileLabModel", "grains", "[I", false)
  | 3 => ("SandpileLabModel", "work", "[I", false)
  | 4 => ("SandpileLabModel", "found", "[Z", false)
  | 5 => ("SandpileLabModel", "known", "Z", false)
  | _ => ("SandpileLabModel", "topples", "I", false)
def tyX1 : Nat → FieldType := fun k => match k with
  | 0 => .array .int
  | 1 => .array .int
  | 2 => .array .int
  | 3 => .array .int
  | 4 => .array .boolean
  | 5 => .boolean
  | _ => .int
abbrev wsX10 : List Cond := u_ws RX1 TX1 7
theorem nmX1 : ∀ a, a < 7 → ∀ b, b < 7 → a ≠ b → (TX1 a).2.1 ≠ (TX1 b).2.1 := by decide +kernel
theorem tyX1_ok : ∀ k, k < 7 → parseFieldDescriptor (TX1 k).2.2.1 = some (tyX1 k) := by decide +kernel
abbrev cX1_init : ByteArray := prog_3_method_1_code
def yX1_init : MethodName := ⟨RX1, "<init>", "()V"⟩
theorem dX1_init_0 : decode cX1_init 0 = .ok (.aload_n 0, 1) := by decide +kernel
theorem dX1_init_1 : decode cX1_init 1 = .ok (.invokespecial 1, 3) := by decide +kernel
theorem dX1_init_4 : decode cX1_init 4 = .ok (.aload_n 0, 1) := by decide +kernel
theorem dX1_init_5 : decode cX1_init 5 = .ok (.iconst 4, 1) := by decide +kernel
theorem dX1_init_6 : decode cX1_init 6 = .ok (.newarray .int, 2) := by decide +kernel
theorem dX1_init_8 : decode cX1_init 8 = .ok (.putfield 7, 3) := by decide +kernel
theorem dX1_init_11 : decode cX1_init 11 = .ok (.aload_n 0, 1) := by decide +kernel
theorem dX1_init_12 : decode cX1_init 12 = .ok (.iconst 4, 1) := by decide +kernel
theorem dX1_init_13 : decode cX1_init 13 = .ok (.newarray .int, 2) := by decide +kernel
theorem dX1_init_15 : decode cX1_init 15 = .ok (.putfield 13, 3) := by decide +kernel
theorem dX1_init_18 : decode cX1_init 18 = .ok (.aload_n 0, 1) := by decide +kernel
theorem dX1_init_19 : decode cX1_init 19 = .ok (.iconst 4, 1) := by decide +kernel
theorem dX1_init_20 : decode cX1_init 20 = .ok (.newarray .int, 2) := by decide +kernel
theorem dX1_init_22 : decode cX1_init 22 = .ok (.putfield 16, 3) := by decide +kernel
theorem dX1_init_25 : decode cX1_init 25 = .ok (.aload_n 0, 1) := by decide +kernel
theorem dX1_init_26 : decode cX1_init 26 = .ok (.iconst 4, 1) := by decide +kernel
theorem dX1_init_27 : decode cX1_init 27 = .ok (.newarray .int, 2) := by decide +kernel
theorem dX1_init_29 : decode cX1_init 29 = .ok (.putfield 19, 3) := by decide +kernel
theorem dX1_init_32 : decode cX1_init 32 = .ok (.aload_n 0, 1) := by decide +kernel
theorem dX1_init_33 : decode cX1_init 33 = .ok (.sipush 4096, 3) := by decide +kernel
theorem dX1_init_36 : decode cX1_init 36 = .ok (.newarray .boolean, 2) := by decide +kernel
theorem dX1_init_38 : decode cX1_init 38 = .ok (.putfield 22, 3) := by decide +kernel
theorem dX1_init_41 : decode cX1_init 41 = .ok (.aload_n 0, 1) := by decide +kernel
theorem dX1_init_42 : decode cX1_init 42 = .ok (.iconst 0, 1) := by decide +kernel
theorem dX1_init_43 : decode cX1_init 43 = .ok (.putfield 26, 3) := by decide +kernel
theorem dX1_init_46 : decode cX1_init 46 = .ok (.iconst 0, 1) := by decide +kernel
theorem dX1_init_47 : decode cX1_init 47 = .ok (.istore_n 1, 1) := by decide +kernel
theorem dX1_init_48 : decode cX1_init 48 = .ok (.iload_n 1, 1) := by decide +kernel
theorem dX1_init_49 : decode cX1_init 49 = .ok (.iconst 4, 1) := by decide +kernel
theorem dX1_init_50 : decode cX1_init 50 = .ok (.if_icmp .ge 16, 3) := by decide +kernel
theorem dX1_init_53 : decode cX1_init 53 = .ok (.aload_n 0, 1) := by decide +kernel
theorem dX1_init_54 : decode cX1_init 54 = .ok (.getfield 13, 3) := by decide +kernel
theorem dX1_init_57 : decode cX1_init 57 = .ok (.iload_n 1, 1) := by decide +kernel
theorem dX1_init_58 : decode cX1_init 58 = .ok (.iconst 1, 1) := by decide +kernel
theorem dX1_init_59 : decode cX1_init 59 = .ok (.iastore, 1) := by decide +kernel
theorem dX1_init_60 : decode cX1_init 60 = .ok (.iinc 1 1, 3) := by decide +kernel
theorem dX1_init_63 : decode cX1_init 63 = .ok (.goto (-15), 3) := by decide +kernel
theorem dX1_init_66 : decode cX1_init 66 = .ok (.return_, 1) := by decide +kernel
abbrev cX1_edge : ByteArray := prog_3_method_5_code
def yX1_edge : MethodName := ⟨RX1, "edge", "(IIZ)Z"⟩
theorem dX1_edge_0 : decode cX1_edge 0 = .ok (.aload_n 0, 1) := by decide +kernel
theorem dX1_edge_1 : decode cX1_edge 1 = .ok (.iload_n 1, 1) := by decide +kernel
theorem dX1_edge_2 : decode cX1_edge 2 = .ok (.invokevirtual 30, 3) := by decide +kernel
theorem dX1_edge_5 : decode cX1_edge 5 = .ok (.ifCond .eq 16, 3) := by decide +kernel
theorem dX1_edge_8 : decode cX1_edge 8 = .ok (.aload_n 0, 1) := by decide +kernel
theorem dX1_edge_9 : decode cX1_edge 9 = .ok (.iload_n 2, 1) := by decide +kernel
theorem dX1_edge_10 : decode cX1_edge 10 = .ok (.invokevirtual 30, 3) := by decide +kernel
theorem dX1_edge_13 : decode cX1_edge 13 = .ok (.ifCond .eq 8, 3) := by decide +kernel
theorem dX1_edge_16 : decode cX1_edge 16 = .ok (.iload_n 1, 1) := by decide +kernel
theorem dX1_edge_17 : decode cX1_edge 17 = .ok (.iload_n 2, 1) := by decide +kernel
theorem dX1_edge_18 : decode cX1_edge 18 = .ok (.if_icmp .ne 5, 3) := by decide +kernel
theorem dX1_edge_21 : decode cX1_edge 21 = .ok (.iconst 0, 1) := by decide +kernel
theorem dX1_edge_22 : decode cX1_edge 22 = .ok (.ireturn, 1) := by decide +kernel
theorem dX1_edge_23 : decode cX1_edge 23 = .ok (.aload_n 0, 1) := by decide +kernel
theorem dX1_edge_24 : decode cX1_edge 24 = .ok (.getfield 7, 3) := by decide +kernel
theorem dX1_edge_27 : decode cX1_edge 27 = .ok (.iload_n 1, 1) := by decide +kernel
theorem dX1_edge_28 : decode cX1_edge 28 = .ok (.iload_n 3, 1) := by decide +kernel
theorem dX1_edge_29 : decode cX1_edge 29 = .ok (.ifCond .eq 16, 3) := by decide +kernel
theorem dX1_edge_32 : decode cX1_edge 32 = .ok (.aload_n 0, 1) := by decide +kernel
theorem dX1_edge_33 : decode cX1_edge 33 = .ok (.getfield 7, 3) := by decide +kernel
theorem dX1_edge_36 : decode cX1_edge 36 = .ok (.iload_n 1, 1) := by decide +kernel
theorem dX1_edge_37 : decode cX1_edge 37 = .ok (.iaload, 1) := by decide +kernel
theorem dX1_edge_38 : decode cX1_edge 38 = .ok (.iconst 1, 1) := by decide +kernel
theorem dX1_edge_39 : decode cX1_edge 39 = .ok (.iload_n 2, 1) := by decide +kernel
theorem dX1_edge_40 : decode cX1_edge 40 = .ok (.ishl, 1) := by decide +kernel
theorem dX1_edge_41 : decode cX1_edge 41 = .ok (.ior, 1) := by decide +kernel
theorem dX1_edge_42 : decode cX1_edge 42 = .ok (.goto 15, 3) := by decide +kernel
theorem dX1_edge_45 : decode cX1_edge 45 = .ok (.aload_n 0, 1) := by decide +kernel
theorem dX1_edge_46 : decode cX1_edge 46 = .ok (.getfield 7, 3) := by decide +kernel
theorem dX1_edge_49 : decode cX1_edge 49 = .ok (.iload_n 1, 1) := by decide +kernel
theorem dX1_edge_50 : decode cX1_edge 50 = .ok (.iaload, 1) := by decide +kernel
theorem dX1_edge_51 : decode cX1_edge 51 = .ok (.iconst 1, 1) := by decide +kernel
theorem dX1_edge_52 : decode cX1_edge 52 = .ok (.iload_n 2, 1) := by decide +kernel
theorem dX1_edge_53 : decode cX1_edge 53 = .ok (.ishl, 1) := by decide +kernel
theorem dX1_edge_54 : decode cX1_edge 54 = .ok (.iconst (-1), 1) := by decide +kernel
theorem dX1_edge_55 : decode cX1_edge 55 = .ok (.ixor, 1) := by decide +kernel
theorem dX1_edge_56 : decode cX1_edge 56 = .ok (.iand, 1) := by decide +kernel
theorem dX1_edge_57 : decode cX1_edge 57 = .ok (.iastore, 1) := by decide +kernel
theorem dX1_edge_58 : decode cX1_edge 58 = .ok (.aload_n 0, 1) := by decide +kernel
theorem dX1_edge_59 : decode cX1_edge 59 = .ok (.getfield 7, 3) := by decide +kernel
theorem dX1_edge_62 : decode cX1_edge 62 = .ok (.iload_n 2, 1) := by decide +kernel
theorem dX1_edge_63 : decode cX1_edge 63 = .ok (.iload_n 3, 1) := by decide +kernel
theorem dX1_edge_64 : decode cX1_edge 64 = .ok (.ifCond .eq 16, 3) := by decide +kernel
theorem dX1_edge_67 : decode cX1_edge 67 = .ok (.aload_n 0, 1) := by decide +kernel
theorem dX1_edge_68 : decode cX1_edge 68 = .ok (.getfield 7, 3) := by decide +kernel
theorem dX1_edge_71 : decode cX1_edge 71 = .ok (.iload_n 2, 1) := by decide +kernel
theorem dX1_edge_72 : decode cX1_edge 72 = .ok (.iaload, 1) := by decide +kernel
theorem dX1_edge_73 : decode cX1_edge 73 = .ok (.iconst 1, 1) := by decide +kernel
theorem dX1_edge_74 : decode cX1_edge 74 = .ok (.iload_n 1, 1) := by decide +kernel
theorem dX1_edge_75 : decode cX1_edge 75 = .ok (.ishl, 1) := by decide +kernel
theorem dX1_edge_76 : decode cX1_edge 76 = .ok (.ior, 1) := by decide +kernel
theorem dX1_edge_77 : decode cX1_edge 77 = .ok (.goto 15, 3) := by decide +kernel
theorem dX1_edge_80 : decode cX1_edge 80 = .ok (.aload_n 0, 1) := by decide +kernel
theorem dX1_edge_81 : decode cX1_edge 81 = .ok (.getfield 7, 3) := by decide +kernel
theorem dX1_edge_84 : decode cX1_edge 84 = .ok (.iload_n 2, 1) := by decide +kernel
theorem dX1_edge_85 : decode cX1_edge 85 = .ok (.iaload, 1) := by decide +kernel
theorem dX1_edge_86 : decode cX1_edge 86 = .ok (.iconst 1, 1) := by decide +kernel
theorem dX1_edge_87 : decode cX1_edge 87 = .ok (.iload_n 1, 1) := by decide +kernel
theorem dX1_edge_88 : decode cX1_edge 88 = .ok (.ishl, 1) := by decide +kernel
theorem dX1_edge_89 : decode cX1_edge 89 = .ok (.iconst (-1), 1) := by decide +kernel
theorem dX1_edge_90 : decode cX1_edge 90 = .ok (.ixor, 1) := by decide +kernel
theorem dX1_edge_91 : decode cX1_edge 91 = .ok (.iand, 1) := by decide +kernel
theorem dX1_edge_92 : decode cX1_edge 92 = .ok (.iastore, 1) := by decide +kernel
theorem dX1_edge_93 : decode cX1_edge 93 = .ok (.aload_n 0, 1) := by decide +kernel
theorem dX1_edge_94 : decode cX1_edge 94 = .ok (.invokevirtual 34, 3) := by decide +kernel
theorem dX1_edge_97 : decode cX1_edge 97 = .ok (.iconst 1, 1) := by decide +kernel
theorem dX1_edge_98 : decode cX1_edge 98 = .ok (.ireturn, 1) := by decide +kernel
abbrev cX1_isPlace : ByteArray := prog_3_method_2_code
def yX1_isPlace : MethodName := ⟨RX1, "isPlace", "(I)Z"⟩
theorem dX1_isPlace_0 : decode cX1_isPlace 0 = .ok (.iload_n 1, 1) := by decide +kernel
theorem dX1_isPlace_1 : decode cX1_isPlace 1 = .ok (.ifCond .lt 12, 3) := by decide +kernel
theorem dX1_isPlace_4 : decode cX1_isPlace 4 = .ok (.iload_n 1, 1) := by decide +kernel
theorem dX1_isPlace_5 : decode cX1_isPlace 5 = .ok (.iconst 3, 1) := by decide +kernel
theorem dX1_isPlace_6 : decode cX1_isPlace 6 = .ok (.if_icmp .gt 7, 3) := by decide +kernel
theorem dX1_isPlace_9 : decode cX1_isPlace 9 = .ok (.iconst 1, 1) := by decide +kernel
theorem dX1_isPlace_10 : decode cX1_isPlace 10 = .ok (.goto 4, 3) := by decide +kernel
theorem dX1_isPlace_13 : decode cX1_isPlace 13 = .ok (.iconst 0, 1) := by decide +kernel
theorem dX1_isPlace_14 : decode cX1_isPlace 14 = .ok (.ireturn, 1) := by decide +kernel
abbrev cX1_vanish : ByteArray := prog_3_method_4_code
def yX1_vanish : MethodName := ⟨RX1, "vanish", "()V"⟩
theorem dX1_vanish_0 : decode cX1_vanish 0 = .ok (.iconst 0, 1) := by decide +kernel
theorem dX1_vanish_1 : decode cX1_vanish 1 = .ok (.istore_n 1, 1) := by decide +kernel
theorem dX1_vanish_2 : decode cX1_vanish 2 = .ok (.iload_n 1, 1) := by decide +kernel
theorem dX1_vanish_3 : decode cX1_vanish 3 = .ok (.iconst 4, 1) := by decide +kernel
theorem dX1_vanish_4 : decode cX1_vanish 4 = .ok (.if_icmp .ge 16, 3) := by decide +kernel
theorem dX1_vanish_7 : decode cX1_vanish 7 = .ok (.aload_n 0, 1) := by decide +kernel
theorem dX1_vanish_8 : decode cX1_vanish 8 = .ok (.getfield 16, 3) := by decide +kernel
theorem dX1_vanish_11 : decode cX1_vanish 11 = .ok (.iload_n 1, 1) := by decide +kernel
theorem dX1_vanish_12 : decode cX1_vanish 12 = .ok (.iconst 0, 1) := by decide +kernel
theorem dX1_vanish_13 : decode cX1_vanish 13 = .ok (.iastore, 1) := by decide +kernel
theorem dX1_vanish_14 : decode cX1_vanish 14 = .ok (.iinc 1 1, 3) := by decide +kernel
theorem dX1_vanish_17 : decode cX1_vanish 17 = .ok (.goto (-15), 3) := by decide +kernel
theorem dX1_vanish_20 : decode cX1_vanish 20 = .ok (.aload_n 0, 1) := by decide +kernel
theorem dX1_vanish_21 : decode cX1_vanish 21 = .ok (.iconst 0, 1) := by decide +kernel
theorem dX1_vanish_22 : decode cX1_vanish 22 = .ok (.putfield 26, 3) := by decide +kernel
theorem dX1_vanish_25 : decode cX1_vanish 25 = .ok (.return_, 1) := by decide +kernel
abbrev cX1_sink : ByteArray := prog_3_method_6_code
def yX1_sink : MethodName := ⟨RX1, "sink", "(II)Z"⟩
theorem dX1_sink_0 : decode cX1_sink 0 = .ok (.aload_n 0, 1) := by decide +kernel
theorem dX1_sink_1 : decode cX1_sink 1 = .ok (.iload_n 1, 1) := by decide +kernel
theorem dX1_sink_2 : decode cX1_sink 2 = .ok (.invokevirtual 30, 3) := by decide +kernel
theorem dX1_sink_5 : decode cX1_sink 5 = .ok (.ifCond .eq 13, 3) := by decide +kernel
theorem dX1_sink_8 : decode cX1_sink 8 = .ok (.iload_n 2, 1) := by decide +kernel
theorem dX1_sink_9 : decode cX1_sink 9 = .ok (.iconst 1, 1) := by decide +kernel
theorem dX1_sink_10 : decode cX1_sink 10 = .ok (.if_icmp .lt 8, 3) := by decide +kernel
theorem dX1_sink_13 : decode cX1_sink 13 = .ok (.iload_n 2, 1) := by decide +kernel
theorem dX1_sink_14 : decode cX1_sink 14 = .ok (.iconst 2, 1) := by decide +kernel
theorem dX1_sink_15 : decode cX1_sink 15 = .ok (.if_icmp .le 5, 3) := by decide +kernel
theorem dX1_sink_18 : decode cX1_sink 18 = .ok (.iconst 0, 1) := by decide +kernel
theorem dX1_sink_19 : decode cX1_sink 19 = .ok (.ireturn, 1) := by decide +kernel
theorem dX1_sink_20 : decode cX1_sink 20 = .ok (.aload_n 0, 1) := by decide +kernel
theorem dX1_sink_21 : decode cX1_sink 21 = .ok (.getfield 13, 3) := by decide +kernel
theorem dX1_sink_24 : decode cX1_sink 24 = .ok (.iload_n 1, 1) := by decide +kernel
theorem dX1_sink_25 : decode cX1_sink 25 = .ok (.iload_n 2, 1) := by decide +kernel
theorem dX1_sink_26 : decode cX1_sink 26 = .ok (.iastore, 1) := by decide +kernel
theorem dX1_sink_27 : decode cX1_sink 27 = .ok (.aload_n 0, 1) := by decide +kernel
theorem dX1_sink_28 : decode cX1_sink 28 = .ok (.invokevirtual 34, 3) := by decide +kernel
theorem dX1_sink_31 : decode cX1_sink 31 = .ok (.iconst 1, 1) := by decide +kernel
theorem dX1_sink_32 : decode cX1_sink 32 = .ok (.ireturn, 1) := by decide +kernel
abbrev cX1_drop : ByteArray := prog_3_method_12_code
def yX1_drop : MethodName := ⟨RX1, "drop", "(II)I"⟩
theorem dX1_drop_0 : decode cX1_drop 0 = .ok (.aload_n 0, 1) := by decide +kernel
theorem dX1_drop_1 : decode cX1_drop 1 = .ok (.iload_n 1, 1) := by decide +kernel
theorem dX1_drop_2 : decode cX1_drop 2 = .ok (.invokevirtual 30, 3) := by decide +kernel
theorem dX1_drop_5 : decode cX1_drop 5 = .ok (.ifCond .eq 14, 3) := by decide +kernel
theorem dX1_drop_8 : decode cX1_drop 8 = .ok (.iload_n 2, 1) := by decide +kernel
theorem dX1_drop_9 : decode cX1_drop 9 = .ok (.ifCond .lt 10, 3) := by decide +kernel
theorem dX1_drop_12 : decode cX1_drop 12 = .ok (.iload_n 2, 1) := by decide +kernel
theorem dX1_drop_13 : decode cX1_drop 13 = .ok (.sipush 1000, 3) := by decide +kernel
theorem dX1_drop_16 : decode cX1_drop 16 = .ok (.if_icmp .le 5, 3) := by decide +kernel
theorem dX1_drop_19 : decode cX1_drop 19 = .ok (.iconst (-1), 1) := by decide +kernel
theorem dX1_drop_20 : decode cX1_drop 20 = .ok (.ireturn, 1) := by decide +kernel
theorem dX1_drop_21 : decode cX1_drop 21 = .ok (.iconst 0, 1) := by decide +kernel
theorem dX1_drop_22 : decode cX1_drop 22 = .ok (.istore_n 3, 1) := by decide +kernel
theorem dX1_drop_23 : decode cX1_drop 23 = .ok (.iload_n 3, 1) := by decide +kernel
theorem dX1_drop_24 : decode cX1_drop 24 = .ok (.iconst 4, 1) := by decide +kernel
theorem dX1_drop_25 : decode cX1_drop 25 = .ok (.if_icmp .ge 21, 3) := by decide +kernel
theorem dX1_drop_28 : decode cX1_drop 28 = .ok (.aload_n 0, 1) := by decide +kernel
theorem dX1_drop_29 : decode cX1_drop 29 = .ok (.getfield 19, 3) := by decide +kernel
theorem dX1_drop_32 : decode cX1_drop 32 = .ok (.iload_n 3, 1) := by decide +kernel
theorem dX1_drop_33 : decode cX1_drop 33 = .ok (.aload_n 0, 1) := by decide +kernel
theorem dX1_drop_34 : decode cX1_drop 34 = .ok (.getfield 16, 3) := by decide +kernel
theorem dX1_drop_37 : decode cX1_drop 37 = .ok (.iload_n 3, 1) := by decide +kernel
theorem dX1_drop_38 : decode cX1_drop 38 = .ok (.iaload, 1) := by decide +kernel
theorem dX1_drop_39 : decode cX1_drop 39 = .ok (.iastore, 1) := by decide +kernel
theorem dX1_drop_40 : decode cX1_drop 40 = .ok (.iinc 3 1, 3) := by decide +kernel
theorem dX1_drop_43 : decode cX1_drop 43 = .ok (.goto (-20), 3) := by decide +kernel
theorem dX1_drop_46 : decode cX1_drop 46 = .ok (.aload_n 0, 1) := by decide +kernel
theorem dX1_drop_47 : decode cX1_drop 47 = .ok (.getfield 19, 3) := by decide +kernel
theorem dX1_drop_50 : decode cX1_drop 50 = .ok (.iload_n 1, 1) := by decide +kernel
theorem dX1_drop_51 : decode cX1_drop 51 = .ok (.dup2, 1) := by decide +kernel
theorem dX1_drop_52 : decode cX1_drop 52 = .ok (.iaload, 1) := by decide +kernel
theorem dX1_drop_53 : decode cX1_drop 53 = .ok (.iload_n 2, 1) := by decide +kernel
theorem dX1_drop_54 : decode cX1_drop 54 = .ok (.iadd, 1) := by decide +kernel
theorem dX1_drop_55 : decode cX1_drop 55 = .ok (.iastore, 1) := by decide +kernel
theorem dX1_drop_56 : decode cX1_drop 56 = .ok (.aload_n 0, 1) := by decide +kernel
theorem dX1_drop_57 : decode cX1_drop 57 = .ok (.invokevirtual 53, 3) := by decide +kernel
theorem dX1_drop_60 : decode cX1_drop 60 = .ok (.iconst 0, 1) := by decide +kernel
theorem dX1_drop_61 : decode cX1_drop 61 = .ok (.istore_n 3, 1) := by decide +kernel
theorem dX1_drop_62 : decode cX1_drop 62 = .ok (.iload_n 3, 1) := by decide +kernel
theorem dX1_drop_63 : decode cX1_drop 63 = .ok (.iconst 4, 1) := by decide +kernel
theorem dX1_drop_64 : decode cX1_drop 64 = .ok (.if_icmp .ge 21, 3) := by decide +kernel
theorem dX1_drop_67 : decode cX1_drop 67 = .ok (.aload_n 0, 1) := by decide +kernel
theorem dX1_drop_68 : decode cX1_drop 68 = .ok (.getfield 16, 3) := by decide +kernel
theorem dX1_drop_71 : decode cX1_drop 71 = .ok (.iload_n 3, 1) := by decide +kernel
theorem dX1_drop_72 : decode cX1_drop 72 = .ok (.aload_n 0, 1) := by decide +kernel
theorem dX1_drop_73 : decode cX1_drop 73 = .ok (.getfield 19, 3) := by decide +kernel
theorem dX1_drop_76 : decode cX1_drop 76 = .ok (.iload_n 3, 1) := by decide +kernel
theorem dX1_drop_77 : decode cX1_drop 77 = .ok (.iaload, 1) := by decide +kernel
theorem dX1_drop_78 : decode cX1_drop 78 = .ok (.iastore, 1) := by decide +kernel
theorem dX1_drop_79 : decode cX1_drop 79 = .ok (.iinc 3 1, 3) := by decide +kernel
theorem dX1_drop_82 : decode cX1_drop 82 = .ok (.goto (-20), 3) := by decide +kernel
theorem dX1_drop_85 : decode cX1_drop 85 = .ok (.aload_n 0, 1) := by decide +kernel
theorem dX1_drop_86 : decode cX1_drop 86 = .ok (.getfield 45, 3) := by decide +kernel
theorem dX1_drop_89 : decode cX1_drop 89 = .ok (.ireturn, 1) := by decide +kernel
abbrev cX1_settle : ByteArray := prog_3_method_9_code
def yX1_settle : MethodName := ⟨RX1, "settle", "()V"⟩
theorem dX1_settle_0 : decode cX1_settle 0 = .ok (.aload_n 0, 1) := by decide +kernel
theorem dX1_settle_1 : decode cX1_settle 1 = .ok (.iconst 0, 1) := by decide +kernel
theorem dX1_settle_2 : decode cX1_settle 2 = .ok (.putfield 45, 3) := by decide +kernel
theorem dX1_settle_5 : decode cX1_settle 5 = .ok (.iconst 1, 1) := by decide +kernel
theorem dX1_settle_6 : decode cX1_settle 6 = .ok (.istore_n 1, 1) := by decide +kernel
theorem dX1_settle_7 : decode cX1_settle 7 = .ok (.iconst 0, 1) := by decide +kernel
theorem dX1_settle_8 : decode cX1_settle 8 = .ok (.istore_n 2, 1) := by decide +kernel
theorem dX1_settle_9 : decode cX1_settle 9 = .ok (.iload_n 2, 1) := by decide +kernel
theorem dX1_settle_10 : decode cX1_settle 10 = .ok (.sipush 1101, 3) := by decide +kernel
theorem dX1_settle_13 : decode cX1_settle 13 = .ok (.if_icmp .ge 49, 3) := by decide +kernel
theorem dX1_settle_16 : decode cX1_settle 16 = .ok (.iload_n 1, 1) := by decide +kernel
theorem dX1_settle_17 : decode cX1_settle 17 = .ok (.ifCond .eq 45, 3) := by decide +kernel
theorem dX1_settle_20 : decode cX1_settle 20 = .ok (.iconst 0, 1) := by decide +kernel
theorem dX1_settle_21 : decode cX1_settle 21 = .ok (.istore_n 1, 1) := by decide +kernel
theorem dX1_settle_22 : decode cX1_settle 22 = .ok (.iconst 0, 1) := by decide +kernel
theorem dX1_settle_23 : decode cX1_settle 23 = .ok (.istore_n 3, 1) := by decide +kernel
theorem dX1_settle_24 : decode cX1_settle 24 = .ok (.iload_n 3, 1) := by decide +kernel
theorem dX1_settle_25 : decode cX1_settle 25 = .ok (.iconst 4, 1) := by decide +kernel
theorem dX1_settle_26 : decode cX1_settle 26 = .ok (.if_icmp .ge 30, 3) := by decide +kernel
theorem dX1_settle_29 : decode cX1_settle 29 = .ok (.aload_n 0, 1) := by decide +kernel
theorem dX1_settle_30 : decode cX1_settle 30 = .ok (.getfield 19, 3) := by decide +kernel
theorem dX1_settle_33 : decode cX1_settle 33 = .ok (.iload_n 3, 1) := by decide +kernel
theorem dX1_settle_34 : decode cX1_settle 34 = .ok (.iaload, 1) := by decide +kernel
theorem dX1_settle_35 : decode cX1_settle 35 = .ok (.aload_n 0, 1) := by decide +kernel
theorem dX1_settle_36 : decode cX1_settle 36 = .ok (.iload_n 3, 1) := by decide +kernel
theorem dX1_settle_37 : decode cX1_settle 37 = .ok (.invokevirtual 41, 3) := by decide +kernel
theorem dX1_settle_40 : decode cX1_settle 40 = .ok (.if_icmp .lt 10, 3) := by decide +kernel
theorem dX1_settle_43 : decode cX1_settle 43 = .ok (.aload_n 0, 1) := by decide +kernel
theorem dX1_settle_44 : decode cX1_settle 44 = .ok (.iload_n 3, 1) := by decide +kernel
theorem dX1_settle_45 : decode cX1_settle 45 = .ok (.invokevirtual 49, 3) := by decide +kernel
theorem dX1_settle_48 : decode cX1_settle 48 = .ok (.iconst 1, 1) := by decide +kernel
theorem dX1_settle_49 : decode cX1_settle 49 = .ok (.istore_n 1, 1) := by decide +kernel
theorem dX1_settle_50 : decode cX1_settle 50 = .ok (.iinc 3 1, 3) := by decide +kernel
theorem dX1_settle_53 : decode cX1_settle 53 = .ok (.goto (-29), 3) := by decide +kernel
theorem dX1_settle_56 : decode cX1_settle 56 = .ok (.iinc 2 1, 3) := by decide +kernel
theorem dX1_settle_59 : decode cX1_settle 59 = .ok (.goto (-50), 3) := by decide +kernel
theorem dX1_settle_62 : decode cX1_settle 62 = .ok (.return_, 1) := by decide +kernel
abbrev cX1_degreeOf : ByteArray := prog_3_method_7_code
def yX1_degreeOf : MethodName := ⟨RX1, "degreeOf", "(I)I"⟩
theorem dX1_degreeOf_0 : decode cX1_degreeOf 0 = .ok (.aload_n 0, 1) := by decide +kernel
theorem dX1_degreeOf_1 : decode cX1_degreeOf 1 = .ok (.getfield 13, 3) := by decide +kernel
theorem dX1_degreeOf_4 : decode cX1_degreeOf 4 = .ok (.iload_n 1, 1) := by decide +kernel
theorem dX1_degreeOf_5 : decode cX1_degreeOf 5 = .ok (.iaload, 1) := by decide +kernel
theorem dX1_degreeOf_6 : decode cX1_degreeOf 6 = .ok (.istore_n 2, 1) := by decide +kernel
theorem dX1_degreeOf_7 : decode cX1_degreeOf 7 = .ok (.iconst 0, 1) := by decide +kernel
theorem dX1_degreeOf_8 : decode cX1_degreeOf 8 = .ok (.istore_n 3, 1) := by decide +kernel
theorem dX1_degreeOf_9 : decode cX1_degreeOf 9 = .ok (.iload_n 3, 1) := by decide +kernel
theorem dX1_degreeOf_10 : decode cX1_degreeOf 10 = .ok (.iconst 4, 1) := by decide +kernel
theorem dX1_degreeOf_11 : decode cX1_degreeOf 11 = .ok (.if_icmp .ge 26, 3) := by decide +kernel
theorem dX1_degreeOf_14 : decode cX1_degreeOf 14 = .ok (.aload_n 0, 1) := by decide +kernel
theorem dX1_degreeOf_15 : decode cX1_degreeOf 15 = .ok (.aload_n 0, 1) := by decide +kernel
theorem dX1_degreeOf_16 : decode cX1_degreeOf 16 = .ok (.getfield 7, 3) := by decide +kernel
theorem dX1_degreeOf_19 : decode cX1_degreeOf 19 = .ok (.iload_n 1, 1) := by decide +kernel
theorem dX1_degreeOf_20 : decode cX1_degreeOf 20 = .ok (.iaload, 1) := by decide +kernel
theorem dX1_degreeOf_21 : decode cX1_degreeOf 21 = .ok (.iload_n 3, 1) := by decide +kernel
theorem dX1_degreeOf_22 : decode cX1_degreeOf 22 = .ok (.invokevirtual 37, 3) := by decide +kernel
theorem dX1_degreeOf_25 : decode cX1_degreeOf 25 = .ok (.ifCond .eq 6, 3) := by decide +kernel
theorem dX1_degreeOf_28 : decode cX1_degreeOf 28 = .ok (.iinc 2 1, 3) := by decide +kernel
theorem dX1_degreeOf_31 : decode cX1_degreeOf 31 = .ok (.iinc 3 1, 3) := by decide +kernel
theorem dX1_degreeOf_34 : decode cX1_degreeOf 34 = .ok (.goto (-25), 3) := by decide +kernel
theorem dX1_degreeOf_37 : decode cX1_degreeOf 37 = .ok (.iload_n 2, 1) := by decide +kernel
theorem dX1_degreeOf_38 : decode cX1_degreeOf 38 = .ok (.ireturn, 1) := by decide +kernel
abbrev cX1_in : ByteArray := prog_3_method_3_code
def yX1_in : MethodName := ⟨RX1, "in", "(II)Z"⟩
theorem dX1_in_0 : decode cX1_in 0 = .ok (.iload_n 1, 1) := by decide +kernel
theorem dX1_in_1 : decode cX1_in 1 = .ok (.iload_n 2, 1) := by decide +kernel
theorem dX1_in_2 : decode cX1_in 2 = .ok (.ishr, 1) := by decide +kernel
theorem dX1_in_3 : decode cX1_in 3 = .ok (.iconst 1, 1) := by decide +kernel
theorem dX1_in_4 : decode cX1_in 4 = .ok (.iand, 1) := by decide +kernel
theorem dX1_in_5 : decode cX1_in 5 = .ok (.iconst 1, 1) := by decide +kernel
theorem dX1_in_6 : decode cX1_in 6 = .ok (.if_icmp .ne 7, 3) := by decide +kernel
theorem dX1_in_9 : decode cX1_in 9 = .ok (.iconst 1, 1) := by decide +kernel
theorem dX1_in_10 : decode cX1_in 10 = .ok (.goto 4, 3) := by decide +kernel
theorem dX1_in_13 : decode cX1_in 13 = .ok (.iconst 0, 1) := by decide +kernel
theorem dX1_in_14 : decode cX1_in 14 = .ok (.ireturn, 1) := by decide +kernel
abbrev cX1_topple : ByteArray := prog_3_method_8_code
def yX1_topple : MethodName := ⟨RX1, "topple", "(I)V"⟩
theorem dX1_topple_0 : decode cX1_topple 0 = .ok (.aload_n 0, 1) := by decide +kernel
theorem dX1_topple_1 : decode cX1_topple 1 = .ok (.getfield 19, 3) := by decide +kernel
theorem dX1_topple_4 : decode cX1_topple 4 = .ok (.iload_n 1, 1) := by decide +kernel
theorem dX1_topple_5 : decode cX1_topple 5 = .ok (.dup2, 1) := by decide +kernel
theorem dX1_topple_6 : decode cX1_topple 6 = .ok (.iaload, 1) := by decide +kernel
theorem dX1_topple_7 : decode cX1_topple 7 = .ok (.aload_n 0, 1) := by decide +kernel
theorem dX1_topple_8 : decode cX1_topple 8 = .ok (.iload_n 1, 1) := by decide +kernel
theorem dX1_topple_9 : decode cX1_topple 9 = .ok (.invokevirtual 41, 3) := by decide +kernel
theorem dX1_topple_12 : decode cX1_topple 12 = .ok (.isub, 1) := by decide +kernel
theorem dX1_topple_13 : decode cX1_topple 13 = .ok (.iastore, 1) := by decide +kernel
theorem dX1_topple_14 : decode cX1_topple 14 = .ok (.iconst 0, 1) := by decide +kernel
theorem dX1_topple_15 : decode cX1_topple 15 = .ok (.istore_n 2, 1) := by decide +kernel
theorem dX1_topple_16 : decode cX1_topple 16 = .ok (.iload_n 2, 1) := by decide +kernel
theorem dX1_topple_17 : decode cX1_topple 17 = .ok (.iconst 4, 1) := by decide +kernel
theorem dX1_topple_18 : decode cX1_topple 18 = .ok (.if_icmp .ge 33, 3) := by decide +kernel
theorem dX1_topple_21 : decode cX1_topple 21 = .ok (.aload_n 0, 1) := by decide +kernel
theorem dX1_topple_22 : decode cX1_topple 22 = .ok (.aload_n 0, 1) := by decide +kernel
theorem dX1_topple_23 : decode cX1_topple 23 = .ok (.getfield 7, 3) := by decide +kernel
theorem dX1_topple_26 : decode cX1_topple 26 = .ok (.iload_n 1, 1) := by decide +kernel
theorem dX1_topple_27 : decode cX1_topple 27 = .ok (.iaload, 1) := by decide +kernel
theorem dX1_topple_28 : decode cX1_topple 28 = .ok (.iload_n 2, 1) := by decide +kernel
theorem dX1_topple_29 : decode cX1_topple 29 = .ok (.invokevirtual 37, 3) := by decide +kernel
theorem dX1_topple_32 : decode cX1_topple 32 = .ok (.ifCond .eq 13, 3) := by decide +kernel
theorem dX1_topple_35 : decode cX1_topple 35 = .ok (.aload_n 0, 1) := by decide +kernel
theorem dX1_topple_36 : decode cX1_topple 36 = .ok (.getfield 19, 3) := by decide +kernel
theorem dX1_topple_39 : decode cX1_topple 39 = .ok (.iload_n 2, 1) := by decide +kernel
theorem dX1_topple_40 : decode cX1_topple 40 = .ok (.dup2, 1) := by decide +kernel
theorem dX1_topple_41 : decode cX1_topple 41 = .ok (.iaload, 1) := by decide +kernel
theorem dX1_topple_42 : decode cX1_topple 42 = .ok (.iconst 1, 1) := by decide +kernel
theorem dX1_topple_43 : decode cX1_topple 43 = .ok (.iadd, 1) := by decide +kernel
theorem dX1_topple_44 : decode cX1_topple 44 = .ok (.iastore, 1) := by decide +kernel
theorem dX1_topple_45 : decode cX1_topple 45 = .ok (.iinc 2 1, 3) := by decide +kernel
theorem dX1_topple_48 : decode cX1_topple 48 = .ok (.goto (-32), 3) := by decide +kernel
theorem dX1_topple_51 : decode cX1_topple 51 = .ok (.aload_n 0, 1) := by decide +kernel
theorem dX1_topple_52 : decode cX1_topple 52 = .ok (.dup, 1) := by decide +kernel
theorem dX1_topple_53 : decode cX1_topple 53 = .ok (.getfield 45, 3) := by decide +kernel
theorem dX1_topple_56 : decode cX1_topple 56 = .ok (.iconst 1, 1) := by decide +kernel
theorem dX1_topple_57 : decode cX1_topple 57 = .ok (.iadd, 1) := by decide +kernel
theorem dX1_topple_58 : decode cX1_topple 58 = .ok (.putfield 45, 3) := by decide +kernel
theorem dX1_topple_61 : decode cX1_topple 61 = .ok (.return_, 1) := by decide +kernel
abbrev cX1_state : ByteArray := prog_3_method_13_code
def yX1_state : MethodName := ⟨RX1, "state", "()I"⟩
theorem dX1_state_0 : decode cX1_state 0 = .ok (.sipush 512, 3) := by decide +kernel
theorem dX1_state_3 : decode cX1_state 3 = .ok (.aload_n 0, 1) := by decide +kernel
theorem dX1_state_4 : decode cX1_state 4 = .ok (.getfield 16, 3) := by decide +kernel
theorem dX1_state_7 : decode cX1_state 7 = .ok (.iconst 0, 1) := by decide +kernel
theorem dX1_state_8 : decode cX1_state 8 = .ok (.iaload, 1) := by decide +kernel
theorem dX1_state_9 : decode cX1_state 9 = .ok (.imul, 1) := by decide +kernel
theorem dX1_state_10 : decode cX1_state 10 = .ok (.bipush 64, 2) := by decide +kernel
theorem dX1_state_12 : decode cX1_state 12 = .ok (.aload_n 0, 1) := by decide +kernel
theorem dX1_state_13 : decode cX1_state 13 = .ok (.getfield 16, 3) := by decide +kernel
theorem dX1_state_16 : decode cX1_state 16 = .ok (.iconst 1, 1) := by decide +kernel
theorem dX1_state_17 : decode cX1_state 17 = .ok (.iaload, 1) := by decide +kernel
theorem dX1_state_18 : decode cX1_state 18 = .ok (.imul, 1) := by decide +kernel
theorem dX1_state_19 : decode cX1_state 19 = .ok (.iadd, 1) := by decide +kernel
theorem dX1_state_20 : decode cX1_state 20 = .ok (.bipush 8, 2) := by decide +kernel
theorem dX1_state_22 : decode cX1_state 22 = .ok (.aload_n 0, 1) := by decide +kernel
theorem dX1_state_23 : decode cX1_state 23 = .ok (.getfield 16, 3) := by decide +kernel
theorem dX1_state_26 : decode cX1_state 26 = .ok (.iconst 2, 1) := by decide +kernel
theorem dX1_state_27 : decode cX1_state 27 = .ok (.iaload, 1) := by decide +kernel
theorem dX1_state_28 : decode cX1_state 28 = .ok (.imul, 1) := by decide +kernel
theorem dX1_state_29 : decode cX1_state 29 = .ok (.iadd, 1) := by decide +kernel
theorem dX1_state_30 : decode cX1_state 30 = .ok (.aload_n 0, 1) := by decide +kernel
theorem dX1_state_31 : decode cX1_state 31 = .ok (.getfield 16, 3) := by decide +kernel
theorem dX1_state_34 : decode cX1_state 34 = .ok (.iconst 3, 1) := by decide +kernel
theorem dX1_state_35 : decode cX1_state 35 = .ok (.iaload, 1) := by decide +kernel
theorem dX1_state_36 : decode cX1_state 36 = .ok (.iadd, 1) := by decide +kernel
theorem dX1_state_37 : decode cX1_state 37 = .ok (.ireturn, 1) := by decide +kernel
abbrev cX1_set : ByteArray := prog_3_method_15_code
def yX1_set : MethodName := ⟨RX1, "set", "(I)Z"⟩
theorem dX1_set_0 : decode cX1_set 0 = .ok (.aload_n 0, 1) := by decide +kernel
theorem dX1_set_1 : decode cX1_set 1 = .ok (.iload_n 1, 1) := by decide +kernel
theorem dX1_set_2 : decode cX1_set 2 = .ok (.invokevirtual 60, 3) := by decide +kernel
theorem dX1_set_5 : decode cX1_set 5 = .ok (.ifCond .ne 5, 3) := by decide +kernel
theorem dX1_set_8 : decode cX1_set 8 = .ok (.iconst 0, 1) := by decide +kernel
theorem dX1_set_9 : decode cX1_set 9 = .ok (.ireturn, 1) := by decide +kernel
theorem dX1_set_10 : decode cX1_set 10 = .ok (.iconst 0, 1) := by decide +kernel
theorem dX1_set_11 : decode cX1_set 11 = .ok (.istore_n 2, 1) := by decide +kernel
theorem dX1_set_12 : decode cX1_set 12 = .ok (.iload_n 2, 1) := by decide +kernel
theorem dX1_set_13 : decode cX1_set 13 = .ok (.iconst 4, 1) := by decide +kernel
theorem dX1_set_14 : decode cX1_set 14 = .ok (.if_icmp .ge 21, 3) := by decide +kernel
theorem dX1_set_17 : decode cX1_set 17 = .ok (.aload_n 0, 1) := by decide +kernel
theorem dX1_set_18 : decode cX1_set 18 = .ok (.getfield 16, 3) := by decide +kernel
theorem dX1_set_21 : decode cX1_set 21 = .ok (.iload_n 2, 1) := by decide +kernel
theorem dX1_set_22 : decode cX1_set 22 = .ok (.aload_n 0, 1) := by decide +kernel
theorem dX1_set_23 : decode cX1_set 23 = .ok (.iload_n 1, 1) := by decide +kernel
theorem dX1_set_24 : decode cX1_set 24 = .ok (.iload_n 2, 1) := by decide +kernel
theorem dX1_set_25 : decode cX1_set 25 = .ok (.invokevirtual 56, 3) := by decide +kernel
theorem dX1_set_28 : decode cX1_set 28 = .ok (.iastore, 1) := by decide +kernel
theorem dX1_set_29 : decode cX1_set 29 = .ok (.iinc 2 1, 3) := by decide +kernel
theorem dX1_set_32 : decode cX1_set 32 = .ok (.goto (-20), 3) := by decide +kernel
theorem dX1_set_35 : decode cX1_set 35 = .ok (.iconst 1, 1) := by decide +kernel
theorem dX1_set_36 : decode cX1_set 36 = .ok (.ireturn, 1) := by decide +kernel
abbrev cX1_isStable : ByteArray := prog_3_method_14_code
def yX1_isStable : MethodName := ⟨RX1, "isStable", "(I)Z"⟩
theorem dX1_isStable_0 : decode cX1_isStable 0 = .ok (.iload_n 1, 1) := by decide +kernel
theorem dX1_isStable_1 : decode cX1_isStable 1 = .ok (.ifCond .lt 10, 3) := by decide +kernel
theorem dX1_isStable_4 : decode cX1_isStable 4 = .ok (.iload_n 1, 1) := by decide +kernel
theorem dX1_isStable_5 : decode cX1_isStable 5 = .ok (.sipush 4095, 3) := by decide +kernel
theorem dX1_isStable_8 : decode cX1_isStable 8 = .ok (.if_icmp .le 5, 3) := by decide +kernel
theorem dX1_isStable_11 : decode cX1_isStable 11 = .ok (.iconst 0, 1) := by decide +kernel
theorem dX1_isStable_12 : decode cX1_isStable 12 = .ok (.ireturn, 1) := by decide +kernel
theorem dX1_isStable_13 : decode cX1_isStable 13 = .ok (.iconst 0, 1) := by decide +kernel
theorem dX1_isStable_14 : decode cX1_isStable 14 = .ok (.istore_n 2, 1) := by decide +kernel
theorem dX1_isStable_15 : decode cX1_isStable 15 = .ok (.iload_n 2, 1) := by decide +kernel
theorem dX1_isStable_16 : decode cX1_isStable 16 = .ok (.iconst 4, 1) := by decide +kernel
theorem dX1_isStable_17 : decode cX1_isStable 17 = .ok (.if_icmp .ge 25, 3) := by decide +kernel
theorem dX1_isStable_20 : decode cX1_isStable 20 = .ok (.aload_n 0, 1) := by decide +kernel
theorem dX1_isStable_21 : decode cX1_isStable 21 = .ok (.iload_n 1, 1) := by decide +kernel
theorem dX1_isStable_22 : decode cX1_isStable 22 = .ok (.iload_n 2, 1) := by decide +kernel
theorem dX1_isStable_23 : decode cX1_isStable 23 = .ok (.invokevirtual 56, 3) := by decide +kernel
theorem dX1_isStable_26 : decode cX1_isStable 26 = .ok (.aload_n 0, 1) := by decide +kernel
theorem dX1_isStable_27 : decode cX1_isStable 27 = .ok (.iload_n 2, 1) := by decide +kernel
theorem dX1_isStable_28 : decode cX1_isStable 28 = .ok (.invokevirtual 41, 3) := by decide +kernel
theorem dX1_isStable_31 : decode cX1_isStable 31 = .ok (.if_icmp .lt 5, 3) := by decide +kernel
theorem dX1_isStable_34 : decode cX1_isStable 34 = .ok (.iconst 0, 1) := by decide +kernel
theorem dX1_isStable_35 : decode cX1_isStable 35 = .ok (.ireturn, 1) := by decide +kernel
theorem dX1_isStable_36 : decode cX1_isStable 36 = .ok (.iinc 2 1, 3) := by decide +kernel
theorem dX1_isStable_39 : decode cX1_isStable 39 = .ok (.goto (-24), 3) := by decide +kernel
theorem dX1_isStable_42 : decode cX1_isStable 42 = .ok (.iconst 1, 1) := by decide +kernel
theorem dX1_isStable_43 : decode cX1_isStable 43 = .ok (.ireturn, 1) := by decide +kernel
abbrev cX1_digit : ByteArray := prog_3_method_10_code
def yX1_digit : MethodName := ⟨RX1, "digit", "(II)I"⟩
theorem dX1_digit_0 : decode cX1_digit 0 = .ok (.iload_n 1, 1) := by decide +kernel
theorem dX1_digit_1 : decode cX1_digit 1 = .ok (.bipush 9, 2) := by decide +kernel
theorem dX1_digit_3 : decode cX1_digit 3 = .ok (.iconst 3, 1) := by decide +kernel
theorem dX1_digit_4 : decode cX1_digit 4 = .ok (.iload_n 2, 1) := by decide +kernel
theorem dX1_digit_5 : decode cX1_digit 5 = .ok (.imul, 1) := by decide +kernel
theorem dX1_digit_6 : decode cX1_digit 6 = .ok (.isub, 1) := by decide +kernel
theorem dX1_digit_7 : decode cX1_digit 7 = .ok (.ishr, 1) := by decide +kernel
theorem dX1_digit_8 : decode cX1_digit 8 = .ok (.bipush 7, 2) := by decide +kernel
theorem dX1_digit_10 : decode cX1_digit 10 = .ok (.iand, 1) := by decide +kernel
theorem dX1_digit_11 : decode cX1_digit 11 = .ok (.ireturn, 1) := by decide +kernel
abbrev cX1_degree : ByteArray := prog_3_method_16_code
def yX1_degree : MethodName := ⟨RX1, "degree", "(I)I"⟩
theorem dX1_degree_0 : decode cX1_degree 0 = .ok (.aload_n 0, 1) := by decide +kernel
theorem dX1_degree_1 : decode cX1_degree 1 = .ok (.iload_n 1, 1) := by decide +kernel
theorem dX1_degree_2 : decode cX1_degree 2 = .ok (.invokevirtual 30, 3) := by decide +kernel
theorem dX1_degree_5 : decode cX1_degree 5 = .ok (.ifCond .eq 11, 3) := by decide +kernel
theorem dX1_degree_8 : decode cX1_degree 8 = .ok (.aload_n 0, 1) := by decide +kernel
theorem dX1_degree_9 : decode cX1_degree 9 = .ok (.iload_n 1, 1) := by decide +kernel
theorem dX1_degree_10 : decode cX1_degree 10 = .ok (.invokevirtual 41, 3) := by decide +kernel
theorem dX1_degree_13 : decode cX1_degree 13 = .ok (.goto 4, 3) := by decide +kernel
theorem dX1_degree_16 : decode cX1_degree 16 = .ok (.iconst (-1), 1) := by decide +kernel
theorem dX1_degree_17 : decode cX1_degree 17 = .ok (.ireturn, 1) := by decide +kernel
abbrev cX1_recurrent : ByteArray := prog_3_method_22_code
def yX1_recurrent : MethodName := ⟨RX1, "recurrent", "(I)Z"⟩
theorem dX1_recurrent_0 : decode cX1_recurrent 0 = .ok (.aload_n 0, 1) := by decide +kernel
theorem dX1_recurrent_1 : decode cX1_recurrent 1 = .ok (.iload_n 1, 1) := by decide +kernel
theorem dX1_recurrent_2 : decode cX1_recurrent 2 = .ok (.invokevirtual 80, 3) := by decide +kernel
theorem dX1_recurrent_5 : decode cX1_recurrent 5 = .ok (.ireturn, 1) := by decide +kernel
abbrev cX1_isRecurrent : ByteArray := prog_3_method_21_code
def yX1_isRecurrent : MethodName := ⟨RX1, "isRecurrent", "(I)Z"⟩
theorem dX1_isRecurrent_0 : decode cX1_isRecurrent 0 = .ok (.aload_n 0, 1) := by decide +kernel
theorem dX1_isRecurrent_1 : decode cX1_isRecurrent 1 = .ok (.invokevirtual 77, 3) := by decide +kernel
theorem dX1_isRecurrent_4 : decode cX1_isRecurrent 4 = .ok (.iload_n 1, 1) := by decide +kernel
theorem dX1_isRecurrent_5 : decode cX1_isRecurrent 5 = .ok (.ifCond .lt 23, 3) := by decide +kernel
theorem dX1_isRecurrent_8 : decode cX1_isRecurrent 8 = .ok (.iload_n 1, 1) := by decide +kernel
theorem dX1_isRecurrent_9 : decode cX1_isRecurrent 9 = .ok (.sipush 4095, 3) := by decide +kernel
theorem dX1_isRecurrent_12 : decode cX1_isRecurrent 12 = .ok (.if_icmp .gt 16, 3) := by decide +kernel
theorem dX1_isRecurrent_15 : decode cX1_isRecurrent 15 = .ok (.aload_n 0, 1) := by decide +kernel
theorem dX1_isRecurrent_16 : decode cX1_isRecurrent 16 = .ok (.getfield 22, 3) := by decide +kernel
theorem dX1_isRecurrent_19 : decode cX1_isRecurrent 19 = .ok (.iload_n 1, 1) := by decide +kernel
theorem dX1_isRecurrent_20 : decode cX1_isRecurrent 20 = .ok (.baload, 1) := by decide +kernel
theorem dX1_isRecurrent_21 : decode cX1_isRecurrent 21 = .ok (.ifCond .eq 7, 3) := by decide +kernel
theorem dX1_isRecurrent_24 : decode cX1_isRecurrent 24 = .ok (.iconst 1, 1) := by decide +kernel
theorem dX1_isRecurrent_25 : decode cX1_isRecurrent 25 = .ok (.goto 4, 3) := by decide +kernel
theorem dX1_isRecurrent_28 : decode cX1_isRecurrent 28 = .ok (.iconst 0, 1) := by decide +kernel
theorem dX1_isRecurrent_29 : decode cX1_isRecurrent 29 = .ok (.ireturn, 1) := by decide +kernel
abbrev cX1_findRecurrent : ByteArray := prog_3_method_20_code
def yX1_findRecurrent : MethodName := ⟨RX1, "findRecurrent", "()V"⟩
theorem dX1_findRecurrent_0 : decode cX1_findRecurrent 0 = .ok (.aload_n 0, 1) := by decide +kernel
theorem dX1_findRecurrent_1 : decode cX1_findRecurrent 1 = .ok (.getfield 26, 3) := by decide +kernel
theorem dX1_findRecurrent_4 : decode cX1_findRecurrent 4 = .ok (.ifCond .eq 4, 3) := by decide +kernel
theorem dX1_findRecurrent_7 : decode cX1_findRecurrent 7 = .ok (.return_, 1) := by decide +kernel
theorem dX1_findRecurrent_8 : decode cX1_findRecurrent 8 = .ok (.iconst 0, 1) := by decide +kernel
theorem dX1_findRecurrent_9 : decode cX1_findRecurrent 9 = .ok (.istore_n 1, 1) := by decide +kernel
theorem dX1_findRecurrent_10 : decode cX1_findRecurrent 10 = .ok (.iload_n 1, 1) := by decide +kernel
theorem dX1_findRecurrent_11 : decode cX1_findRecurrent 11 = .ok (.sipush 4096, 3) := by decide +kernel
theorem dX1_findRecurrent_14 : decode cX1_findRecurrent 14 = .ok (.if_icmp .ge 16, 3) := by decide +kernel
theorem dX1_findRecurrent_17 : decode cX1_findRecurrent 17 = .ok (.aload_n 0, 1) := by decide +kernel
theorem dX1_findRecurrent_18 : decode cX1_findRecurrent 18 = .ok (.getfield 22, 3) := by decide +kernel
theorem dX1_findRecurrent_21 : decode cX1_findRecurrent 21 = .ok (.iload_n 1, 1) := by decide +kernel
theorem dX1_findRecurrent_22 : decode cX1_findRecurrent 22 = .ok (.iconst 0, 1) := by decide +kernel
theorem dX1_findRecurrent_23 : decode cX1_findRecurrent 23 = .ok (.bastore, 1) := by decide +kernel
theorem dX1_findRecurrent_24 : decode cX1_findRecurrent 24 = .ok (.iinc 1 1, 3) := by decide +kernel
theorem dX1_findRecurrent_27 : decode cX1_findRecurrent 27 = .ok (.goto (-17), 3) := by decide +kernel
theorem dX1_findRecurrent_30 : decode cX1_findRecurrent 30 = .ok (.aload_n 0, 1) := by decide +kernel
theorem dX1_findRecurrent_31 : decode cX1_findRecurrent 31 = .ok (.invokevirtual 70, 3) := by decide +kernel
theorem dX1_findRecurrent_34 : decode cX1_findRecurrent 34 = .ok (.istore_n 1, 1) := by decide +kernel
theorem dX1_findRecurrent_35 : decode cX1_findRecurrent 35 = .ok (.aload_n 0, 1) := by decide +kernel
theorem dX1_findRecurrent_36 : decode cX1_findRecurrent 36 = .ok (.getfield 22, 3) := by decide +kernel
theorem dX1_findRecurrent_39 : decode cX1_findRecurrent 39 = .ok (.iload_n 1, 1) := by decide +kernel
theorem dX1_findRecurrent_40 : decode cX1_findRecurrent 40 = .ok (.sipush 4095, 3) := by decide +kernel
theorem dX1_findRecurrent_43 : decode cX1_findRecurrent 43 = .ok (.iand, 1) := by decide +kernel
theorem dX1_findRecurrent_44 : decode cX1_findRecurrent 44 = .ok (.iconst 1, 1) := by decide +kernel
theorem dX1_findRecurrent_45 : decode cX1_findRecurrent 45 = .ok (.bastore, 1) := by decide +kernel
theorem dX1_findRecurrent_46 : decode cX1_findRecurrent 46 = .ok (.iconst 1, 1) := by decide +kernel
theorem dX1_findRecurrent_47 : decode cX1_findRecurrent 47 = .ok (.istore_n 2, 1) := by decide +kernel
theorem dX1_findRecurrent_48 : decode cX1_findRecurrent 48 = .ok (.iconst 0, 1) := by decide +kernel
theorem dX1_findRecurrent_49 : decode cX1_findRecurrent 49 = .ok (.istore_n 3, 1) := by decide +kernel
theorem dX1_findRecurrent_50 : decode cX1_findRecurrent 50 = .ok (.iload_n 3, 1) := by decide +kernel
theorem dX1_findRecurrent_51 : decode cX1_findRecurrent 51 = .ok (.sipush 626, 3) := by decide +kernel
theorem dX1_findRecurrent_54 : decode cX1_findRecurrent 54 = .ok (.if_icmp .ge 18, 3) := by decide +kernel
theorem dX1_findRecurrent_57 : decode cX1_findRecurrent 57 = .ok (.iload_n 2, 1) := by decide +kernel
theorem dX1_findRecurrent_58 : decode cX1_findRecurrent 58 = .ok (.ifCond .eq 14, 3) := by decide +kernel
theorem dX1_findRecurrent_61 : decode cX1_findRecurrent 61 = .ok (.aload_n 0, 1) := by decide +kernel
theorem dX1_findRecurrent_62 : decode cX1_findRecurrent 62 = .ok (.invokevirtual 73, 3) := by decide +kernel
theorem dX1_findRecurrent_65 : decode cX1_findRecurrent 65 = .ok (.istore_n 2, 1) := by decide +kernel
theorem dX1_findRecurrent_66 : decode cX1_findRecurrent 66 = .ok (.iinc 3 1, 3) := by decide +kernel
theorem dX1_findRecurrent_69 : decode cX1_findRecurrent 69 = .ok (.goto (-19), 3) := by decide +kernel
theorem dX1_findRecurrent_72 : decode cX1_findRecurrent 72 = .ok (.aload_n 0, 1) := by decide +kernel
theorem dX1_findRecurrent_73 : decode cX1_findRecurrent 73 = .ok (.iconst 1, 1) := by decide +kernel
theorem dX1_findRecurrent_74 : decode cX1_findRecurrent 74 = .ok (.putfield 26, 3) := by decide +kernel
theorem dX1_findRecurrent_77 : decode cX1_findRecurrent 77 = .ok (.return_, 1) := by decide +kernel
abbrev cX1_full : ByteArray := prog_3_method_18_code
def yX1_full : MethodName := ⟨RX1, "full", "()I"⟩
theorem dX1_full_0 : decode cX1_full 0 = .ok (.iconst 0, 1) := by decide +kernel
theorem dX1_full_1 : decode cX1_full 1 = .ok (.istore_n 1, 1) := by decide +kernel
theorem dX1_full_2 : decode cX1_full 2 = .ok (.iload_n 1, 1) := by decide +kernel
theorem dX1_full_3 : decode cX1_full 3 = .ok (.iconst 4, 1) := by decide +kernel
theorem dX1_full_4 : decode cX1_full 4 = .ok (.if_icmp .ge 22, 3) := by decide +kernel
theorem dX1_full_7 : decode cX1_full 7 = .ok (.aload_n 0, 1) := by decide +kernel
theorem dX1_full_8 : decode cX1_full 8 = .ok (.getfield 19, 3) := by decide +kernel
theorem dX1_full_11 : decode cX1_full 11 = .ok (.iload_n 1, 1) := by decide +kernel
theorem dX1_full_12 : decode cX1_full 12 = .ok (.aload_n 0, 1) := by decide +kernel
theorem dX1_full_13 : decode cX1_full 13 = .ok (.iload_n 1, 1) := by decide +kernel
theorem dX1_full_14 : decode cX1_full 14 = .ok (.invokevirtual 41, 3) := by decide +kernel
theorem dX1_full_17 : decode cX1_full 17 = .ok (.iconst 1, 1) := by decide +kernel
theorem dX1_full_18 : decode cX1_full 18 = .ok (.isub, 1) := by decide +kernel
theorem dX1_full_19 : decode cX1_full 19 = .ok (.iastore, 1) := by decide +kernel
theorem dX1_full_20 : decode cX1_full 20 = .ok (.iinc 1 1, 3) := by decide +kernel
theorem dX1_full_23 : decode cX1_full 23 = .ok (.goto (-21), 3) := by decide +kernel
theorem dX1_full_26 : decode cX1_full 26 = .ok (.aload_n 0, 1) := by decide +kernel
theorem dX1_full_27 : decode cX1_full 27 = .ok (.invokevirtual 63, 3) := by decide +kernel
theorem dX1_full_30 : decode cX1_full 30 = .ok (.ireturn, 1) := by decide +kernel
abbrev cX1_written : ByteArray := prog_3_method_11_code
def yX1_written : MethodName := ⟨RX1, "written", "()I"⟩
theorem dX1_written_0 : decode cX1_written 0 = .ok (.sipush 512, 3) := by decide +kernel
theorem dX1_written_3 : decode cX1_written 3 = .ok (.aload_n 0, 1) := by decide +kernel
theorem dX1_written_4 : decode cX1_written 4 = .ok (.getfield 19, 3) := by decide +kernel
theorem dX1_written_7 : decode cX1_written 7 = .ok (.iconst 0, 1) := by decide +kernel
theorem dX1_written_8 : decode cX1_written 8 = .ok (.iaload, 1) := by decide +kernel
theorem dX1_written_9 : decode cX1_written 9 = .ok (.imul, 1) := by decide +kernel
theorem dX1_written_10 : decode cX1_written 10 = .ok (.bipush 64, 2) := by decide +kernel
theorem dX1_written_12 : decode cX1_written 12 = .ok (.aload_n 0, 1) := by decide +kernel
theorem dX1_written_13 : decode cX1_written 13 = .ok (.getfield 19, 3) := by decide +kernel
theorem dX1_written_16 : decode cX1_written 16 = .ok (.iconst 1, 1) := by decide +kernel
theorem dX1_written_17 : decode cX1_written 17 = .ok (.iaload, 1) := by decide +kernel
theorem dX1_written_18 : decode cX1_written 18 = .ok (.imul, 1) := by decide +kernel
theorem dX1_written_19 : decode cX1_written 19 = .ok (.iadd, 1) := by decide +kernel
theorem dX1_written_20 : decode cX1_written 20 = .ok (.bipush 8, 2) := by decide +kernel
theorem dX1_written_22 : decode cX1_written 22 = .ok (.aload_n 0, 1) := by decide +kernel
theorem dX1_written_23 : decode cX1_written 23 = .ok (.getfield 19, 3) := by decide +kernel
theorem dX1_written_26 : decode cX1_written 26 = .ok (.iconst 2, 1) := by decide +kernel
theorem dX1_written_27 : decode cX1_written 27 = .ok (.iaload, 1) := by decide +kernel
theorem dX1_written_28 : decode cX1_written 28 = .ok (.imul, 1) := by decide +kernel
theorem dX1_written_29 : decode cX1_written 29 = .ok (.iadd, 1) := by decide +kernel
theorem dX1_written_30 : decode cX1_written 30 = .ok (.aload_n 0, 1) := by decide +kernel
theorem dX1_written_31 : decode cX1_written 31 = .ok (.getfield 19, 3) := by decide +kernel
theorem dX1_written_34 : decode cX1_written 34 = .ok (.iconst 3, 1) := by decide +kernel
theorem dX1_written_35 : decode cX1_written 35 = .ok (.iaload, 1) := by decide +kernel
theorem dX1_written_36 : decode cX1_written 36 = .ok (.iadd, 1) := by decide +kernel
theorem dX1_written_37 : decode cX1_written 37 = .ok (.ireturn, 1) := by decide +kernel
abbrev cX1_spread : ByteArray := prog_3_method_19_code
def yX1_spread : MethodName := ⟨RX1, "spread", "()Z"⟩
theorem dX1_spread_0 : decode cX1_spread 0 = .ok (.iconst 0, 1) := by decide +kernel
theorem dX1_spread_1 : decode cX1_spread 1 = .ok (.istore_n 1, 1) := by decide +kernel
theorem dX1_spread_2 : decode cX1_spread 2 = .ok (.sipush 4095, 3) := by decide +kernel
theorem dX1_spread_5 : decode cX1_spread 5 = .ok (.istore_n 2, 1) := by decide +kernel
theorem dX1_spread_6 : decode cX1_spread 6 = .ok (.iload_n 2, 1) := by decide +kernel
theorem dX1_spread_7 : decode cX1_spread 7 = .ok (.ifCond .lt 86, 3) := by decide +kernel
theorem dX1_spread_10 : decode cX1_spread 10 = .ok (.iconst 0, 1) := by decide +kernel
theorem dX1_spread_11 : decode cX1_spread 11 = .ok (.istore_n 3, 1) := by decide +kernel
theorem dX1_spread_12 : decode cX1_spread 12 = .ok (.iload_n 3, 1) := by decide +kernel
theorem dX1_spread_13 : decode cX1_spread 13 = .ok (.iconst 4, 1) := by decide +kernel
theorem dX1_spread_14 : decode cX1_spread 14 = .ok (.if_icmp .ge 73, 3) := by decide +kernel
theorem dX1_spread_17 : decode cX1_spread 17 = .ok (.aload_n 0, 1) := by decide +kernel
theorem dX1_spread_18 : decode cX1_spread 18 = .ok (.getfield 22, 3) := by decide +kernel
theorem dX1_spread_21 : decode cX1_spread 21 = .ok (.iload_n 2, 1) := by decide +kernel
theorem dX1_spread_22 : decode cX1_spread 22 = .ok (.baload, 1) := by decide +kernel
theorem dX1_spread_23 : decode cX1_spread 23 = .ok (.ifCond .eq 18, 3) := by decide +kernel
theorem dX1_spread_26 : decode cX1_spread 26 = .ok (.aload_n 0, 1) := by decide +kernel
theorem dX1_spread_27 : decode cX1_spread 27 = .ok (.iload_n 2, 1) := by decide +kernel
theorem dX1_spread_28 : decode cX1_spread 28 = .ok (.sipush 512, 3) := by decide +kernel
theorem dX1_spread_31 : decode cX1_spread 31 = .ok (.iconst 3, 1) := by decide +kernel
theorem dX1_spread_32 : decode cX1_spread 32 = .ok (.iload_n 3, 1) := by decide +kernel
theorem dX1_spread_33 : decode cX1_spread 33 = .ok (.imul, 1) := by decide +kernel
theorem dX1_spread_34 : decode cX1_spread 34 = .ok (.ishr, 1) := by decide +kernel
theorem dX1_spread_35 : decode cX1_spread 35 = .ok (.invokevirtual 67, 3) := by decide +kernel
theorem dX1_spread_38 : decode cX1_spread 38 = .ok (.goto 4, 3) := by decide +kernel
theorem dX1_spread_41 : decode cX1_spread 41 = .ok (.iload_n 2, 1) := by decide +kernel
theorem dX1_spread_42 : decode cX1_spread 42 = .ok (.istore 4, 2) := by decide +kernel
theorem dX1_spread_44 : decode cX1_spread 44 = .ok (.aload_n 0, 1) := by decide +kernel
theorem dX1_spread_45 : decode cX1_spread 45 = .ok (.getfield 22, 3) := by decide +kernel
theorem dX1_spread_48 : decode cX1_spread 48 = .ok (.iload_n 2, 1) := by decide +kernel
theorem dX1_spread_49 : decode cX1_spread 49 = .ok (.baload, 1) := by decide +kernel
theorem dX1_spread_50 : decode cX1_spread 50 = .ok (.ifCond .eq 31, 3) := by decide +kernel
theorem dX1_spread_53 : decode cX1_spread 53 = .ok (.aload_n 0, 1) := by decide +kernel
theorem dX1_spread_54 : decode cX1_spread 54 = .ok (.getfield 22, 3) := by decide +kernel
theorem dX1_spread_57 : decode cX1_spread 57 = .ok (.iload 4, 2) := by decide +kernel
theorem dX1_spread_59 : decode cX1_spread 59 = .ok (.sipush 4095, 3) := by decide +kernel
theorem dX1_spread_62 : decode cX1_spread 62 = .ok (.iand, 1) := by decide +kernel
theorem dX1_spread_63 : decode cX1_spread 63 = .ok (.baload, 1) := by decide +kernel
theorem dX1_spread_64 : decode cX1_spread 64 = .ok (.ifCond .ne 17, 3) := by decide +kernel
theorem dX1_spread_67 : decode cX1_spread 67 = .ok (.aload_n 0, 1) := by decide +kernel
theorem dX1_spread_68 : decode cX1_spread 68 = .ok (.getfield 22, 3) := by decide +kernel
theorem dX1_spread_71 : decode cX1_spread 71 = .ok (.iload 4, 2) := by decide +kernel
theorem dX1_spread_73 : decode cX1_spread 73 = .ok (.sipush 4095, 3) := by decide +kernel
theorem dX1_spread_76 : decode cX1_spread 76 = .ok (.iand, 1) := by decide +kernel
theorem dX1_spread_77 : decode cX1_spread 77 = .ok (.iconst 1, 1) := by decide +kernel
theorem dX1_spread_78 : decode cX1_spread 78 = .ok (.bastore, 1) := by decide +kernel
theorem dX1_spread_79 : decode cX1_spread 79 = .ok (.iconst 1, 1) := by decide +kernel
theorem dX1_spread_80 : decode cX1_spread 80 = .ok (.istore_n 1, 1) := by decide +kernel
theorem dX1_spread_81 : decode cX1_spread 81 = .ok (.iinc 3 1, 3) := by decide +kernel
theorem dX1_spread_84 : decode cX1_spread 84 = .ok (.goto (-72), 3) := by decide +kernel
theorem dX1_spread_87 : decode cX1_spread 87 = .ok (.iinc 2 (-1), 3) := by decide +kernel
theorem dX1_spread_90 : decode cX1_spread 90 = .ok (.goto (-84), 3) := by decide +kernel
theorem dX1_spread_93 : decode cX1_spread 93 = .ok (.iload_n 1, 1) := by decide +kernel
theorem dX1_spread_94 : decode cX1_spread 94 = .ok (.ireturn, 1) := by decide +kernel
abbrev cX1_sum : ByteArray := prog_3_method_17_code
def yX1_sum : MethodName := ⟨RX1, "sum", "(II)I"⟩
theorem dX1_sum_0 : decode cX1_sum 0 = .ok (.iconst 0, 1) := by decide +kernel
theorem dX1_sum_1 : decode cX1_sum 1 = .ok (.istore_n 3, 1) := by decide +kernel
theorem dX1_sum_2 : decode cX1_sum 2 = .ok (.iload_n 3, 1) := by decide +kernel
theorem dX1_sum_3 : decode cX1_sum 3 = .ok (.iconst 4, 1) := by decide +kernel
theorem dX1_sum_4 : decode cX1_sum 4 = .ok (.if_icmp .ge 28, 3) := by decide +kernel
theorem dX1_sum_7 : decode cX1_sum 7 = .ok (.aload_n 0, 1) := by decide +kernel
theorem dX1_sum_8 : decode cX1_sum 8 = .ok (.getfield 19, 3) := by decide +kernel
theorem dX1_sum_11 : decode cX1_sum 11 = .ok (.iload_n 3, 1) := by decide +kernel
theorem dX1_sum_12 : decode cX1_sum 12 = .ok (.aload_n 0, 1) := by decide +kernel
theorem dX1_sum_13 : decode cX1_sum 13 = .ok (.iload_n 1, 1) := by decide +kernel
theorem dX1_sum_14 : decode cX1_sum 14 = .ok (.iload_n 3, 1) := by decide +kernel
theorem dX1_sum_15 : decode cX1_sum 15 = .ok (.invokevirtual 56, 3) := by decide +kernel
theorem dX1_sum_18 : decode cX1_sum 18 = .ok (.aload_n 0, 1) := by decide +kernel
theorem dX1_sum_19 : decode cX1_sum 19 = .ok (.iload_n 2, 1) := by decide +kernel
theorem dX1_sum_20 : decode cX1_sum 20 = .ok (.iload_n 3, 1) := by decide +kernel
theorem dX1_sum_21 : decode cX1_sum 21 = .ok (.invokevirtual 56, 3) := by decide +kernel
theorem dX1_sum_24 : decode cX1_sum 24 = .ok (.iadd, 1) := by decide +kernel
theorem dX1_sum_25 : decode cX1_sum 25 = .ok (.iastore, 1) := by decide +kernel
theorem dX1_sum_26 : decode cX1_sum 26 = .ok (.iinc 3 1, 3) := by decide +kernel
theorem dX1_sum_29 : decode cX1_sum 29 = .ok (.goto (-27), 3) := by decide +kernel
theorem dX1_sum_32 : decode cX1_sum 32 = .ok (.aload_n 0, 1) := by decide +kernel
theorem dX1_sum_33 : decode cX1_sum 33 = .ok (.invokevirtual 53, 3) := by decide +kernel
theorem dX1_sum_36 : decode cX1_sum 36 = .ok (.aload_n 0, 1) := by decide +kernel
theorem dX1_sum_37 : decode cX1_sum 37 = .ok (.invokevirtual 63, 3) := by decide +kernel
theorem dX1_sum_40 : decode cX1_sum 40 = .ok (.ireturn, 1) := by decide +kernel
abbrev cX1_order : ByteArray := prog_3_method_23_code
def yX1_order : MethodName := ⟨RX1, "order", "()I"⟩
theorem dX1_order_0 : decode cX1_order 0 = .ok (.aload_n 0, 1) := by decide +kernel
theorem dX1_order_1 : decode cX1_order 1 = .ok (.invokevirtual 77, 3) := by decide +kernel
theorem dX1_order_4 : decode cX1_order 4 = .ok (.iconst 0, 1) := by decide +kernel
theorem dX1_order_5 : decode cX1_order 5 = .ok (.istore_n 1, 1) := by decide +kernel
theorem dX1_order_6 : decode cX1_order 6 = .ok (.iconst 0, 1) := by decide +kernel
theorem dX1_order_7 : decode cX1_order 7 = .ok (.istore_n 2, 1) := by decide +kernel
theorem dX1_order_8 : decode cX1_order 8 = .ok (.iload_n 2, 1) := by decide +kernel
theorem dX1_order_9 : decode cX1_order 9 = .ok (.sipush 4096, 3) := by decide +kernel
theorem dX1_order_12 : decode cX1_order 12 = .ok (.if_icmp .ge 21, 3) := by decide +kernel
theorem dX1_order_15 : decode cX1_order 15 = .ok (.aload_n 0, 1) := by decide +kernel
theorem dX1_order_16 : decode cX1_order 16 = .ok (.getfield 22, 3) := by decide +kernel
theorem dX1_order_19 : decode cX1_order 19 = .ok (.iload_n 2, 1) := by decide +kernel
theorem dX1_order_20 : decode cX1_order 20 = .ok (.baload, 1) := by decide +kernel
theorem dX1_order_21 : decode cX1_order 21 = .ok (.ifCond .eq 6, 3) := by decide +kernel
theorem dX1_order_24 : decode cX1_order 24 = .ok (.iinc 1 1, 3) := by decide +kernel
theorem dX1_order_27 : decode cX1_order 27 = .ok (.iinc 2 1, 3) := by decide +kernel
theorem dX1_order_30 : decode cX1_order 30 = .ok (.goto (-22), 3) := by decide +kernel
theorem dX1_order_33 : decode cX1_order 33 = .ok (.iload_n 1, 1) := by decide +kernel
theorem dX1_order_34 : decode cX1_order 34 = .ok (.ireturn, 1) := by decide +kernel
abbrev cX1_neutral : ByteArray := prog_3_method_25_code
def yX1_neutral : MethodName := ⟨RX1, "neutral", "()I"⟩
theorem dX1_neutral_0 : decode cX1_neutral 0 = .ok (.aload_n 0, 1) := by decide +kernel
theorem dX1_neutral_1 : decode cX1_neutral 1 = .ok (.invokevirtual 83, 3) := by decide +kernel
theorem dX1_neutral_4 : decode cX1_neutral 4 = .ok (.ireturn, 1) := by decide +kernel
abbrev cX1_neutralState : ByteArray := prog_3_method_24_code
def yX1_neutralState : MethodName := ⟨RX1, "neutralState", "()I"⟩
theorem dX1_neutralState_0 : decode cX1_neutralState 0 = .ok (.aload_n 0, 1) := by decide +kernel
theorem dX1_neutralState_1 : decode cX1_neutralState 1 = .ok (.invokevirtual 70, 3) := by decide +kernel
theorem dX1_neutralState_4 : decode cX1_neutralState 4 = .ok (.istore_n 1, 1) := by decide +kernel
theorem dX1_neutralState_5 : decode cX1_neutralState 5 = .ok (.iconst 0, 1) := by decide +kernel
theorem dX1_neutralState_6 : decode cX1_neutralState 6 = .ok (.istore_n 2, 1) := by decide +kernel
theorem dX1_neutralState_7 : decode cX1_neutralState 7 = .ok (.iload_n 2, 1) := by decide +kernel
theorem dX1_neutralState_8 : decode cX1_neutralState 8 = .ok (.sipush 4096, 3) := by decide +kernel
theorem dX1_neutralState_11 : decode cX1_neutralState 11 = .ok (.if_icmp .ge 29, 3) := by decide +kernel
theorem dX1_neutralState_14 : decode cX1_neutralState 14 = .ok (.aload_n 0, 1) := by decide +kernel
theorem dX1_neutralState_15 : decode cX1_neutralState 15 = .ok (.iload_n 2, 1) := by decide +kernel
theorem dX1_neutralState_16 : decode cX1_neutralState 16 = .ok (.invokevirtual 80, 3) := by decide +kernel
theorem dX1_neutralState_19 : decode cX1_neutralState 19 = .ok (.ifCond .eq 15, 3) := by decide +kernel
theorem dX1_neutralState_22 : decode cX1_neutralState 22 = .ok (.aload_n 0, 1) := by decide +kernel
theorem dX1_neutralState_23 : decode cX1_neutralState 23 = .ok (.iload_n 2, 1) := by decide +kernel
theorem dX1_neutralState_24 : decode cX1_neutralState 24 = .ok (.iload_n 1, 1) := by decide +kernel
theorem dX1_neutralState_25 : decode cX1_neutralState 25 = .ok (.invokevirtual 67, 3) := by decide +kernel
theorem dX1_neutralState_28 : decode cX1_neutralState 28 = .ok (.iload_n 1, 1) := by decide +kernel
theorem dX1_neutralState_29 : decode cX1_neutralState 29 = .ok (.if_icmp .ne 5, 3) := by decide +kernel
theorem dX1_neutralState_32 : decode cX1_neutralState 32 = .ok (.iload_n 2, 1) := by decide +kernel
theorem dX1_neutralState_33 : decode cX1_neutralState 33 = .ok (.ireturn, 1) := by decide +kernel
theorem dX1_neutralState_34 : decode cX1_neutralState 34 = .ok (.iinc 2 1, 3) := by decide +kernel
theorem dX1_neutralState_37 : decode cX1_neutralState 37 = .ok (.goto (-30), 3) := by decide +kernel
theorem dX1_neutralState_40 : decode cX1_neutralState 40 = .ok (.iconst 0, 1) := by decide +kernel
theorem dX1_neutralState_41 : decode cX1_neutralState 41 = .ok (.ireturn, 1) := by decide +kernel
abbrev cX1_opposite : ByteArray := prog_3_method_26_code
def yX1_opposite : MethodName := ⟨RX1, "opposite", "(I)I"⟩
theorem dX1_opposite_0 : decode cX1_opposite 0 = .ok (.aload_n 0, 1) := by decide +kernel
theorem dX1_opposite_1 : decode cX1_opposite 1 = .ok (.iload_n 1, 1) := by decide +kernel
theorem dX1_opposite_2 : decode cX1_opposite 2 = .ok (.invokevirtual 80, 3) := by decide +kernel
theorem dX1_opposite_5 : decode cX1_opposite 5 = .ok (.ifCond .ne 5, 3) := by decide +kernel
theorem dX1_opposite_8 : decode cX1_opposite 8 = .ok (.iconst (-1), 1) := by decide +kernel
theorem dX1_opposite_9 : decode cX1_opposite 9 = .ok (.ireturn, 1) := by decide +kernel
theorem dX1_opposite_10 : decode cX1_opposite 10 = .ok (.aload_n 0, 1) := by decide +kernel
theorem dX1_opposite_11 : decode cX1_opposite 11 = .ok (.invokevirtual 83, 3) := by decide +kernel
theorem dX1_opposite_14 : decode cX1_opposite 14 = .ok (.istore_n 2, 1) := by decide +kernel
theorem dX1_opposite_15 : decode cX1_opposite 15 = .ok (.iconst 0, 1) := by decide +kernel
theorem dX1_opposite_16 : decode cX1_opposite 16 = .ok (.istore_n 3, 1) := by decide +kernel
theorem dX1_opposite_17 : decode cX1_opposite 17 = .ok (.iload_n 3, 1) := by decide +kernel
theorem dX1_opposite_18 : decode cX1_opposite 18 = .ok (.sipush 4096, 3) := by decide +kernel
theorem dX1_opposite_21 : decode cX1_opposite 21 = .ok (.if_icmp .ge 29, 3) := by decide +kernel
theorem dX1_opposite_24 : decode cX1_opposite 24 = .ok (.aload_n 0, 1) := by decide +kernel
theorem dX1_opposite_25 : decode cX1_opposite 25 = .ok (.iload_n 3, 1) := by decide +kernel
theorem dX1_opposite_26 : decode cX1_opposite 26 = .ok (.invokevirtual 80, 3) := by decide +kernel
theorem dX1_opposite_29 : decode cX1_opposite 29 = .ok (.ifCond .eq 15, 3) := by decide +kernel
theorem dX1_opposite_32 : decode cX1_opposite 32 = .ok (.aload_n 0, 1) := by decide +kernel
theorem dX1_opposite_33 : decode cX1_opposite 33 = .ok (.iload_n 1, 1) := by decide +kernel
theorem dX1_opposite_34 : decode cX1_opposite 34 = .ok (.iload_n 3, 1) := by decide +kernel
theorem dX1_opposite_35 : decode cX1_opposite 35 = .ok (.invokevirtual 67, 3) := by decide +kernel
theorem dX1_opposite_38 : decode cX1_opposite 38 = .ok (.iload_n 2, 1) := by decide +kernel
theorem dX1_opposite_39 : decode cX1_opposite 39 = .ok (.if_icmp .ne 5, 3) := by decide +kernel
theorem dX1_opposite_42 : decode cX1_opposite 42 = .ok (.iload_n 3, 1) := by decide +kernel
theorem dX1_opposite_43 : decode cX1_opposite 43 = .ok (.ireturn, 1) := by decide +kernel
theorem dX1_opposite_44 : decode cX1_opposite 44 = .ok (.iinc 3 1, 3) := by decide +kernel
theorem dX1_opposite_47 : decode cX1_opposite 47 = .ok (.goto (-30), 3) := by decide +kernel
theorem dX1_opposite_50 : decode cX1_opposite 50 = .ok (.iconst (-1), 1) := by decide +kernel
theorem dX1_opposite_51 : decode cX1_opposite 51 = .ok (.ireturn, 1) := by decide +kernel
abbrev cX1_groupSum : ByteArray := prog_3_method_27_code
def yX1_groupSum : MethodName := ⟨RX1, "groupSum", "(II)I"⟩
theorem dX1_groupSum_0 : decode cX1_groupSum 0 = .ok (.aload_n 0, 1) := by decide +kernel
theorem dX1_groupSum_1 : decode cX1_groupSum 1 = .ok (.iload_n 1, 1) := by decide +kernel
theorem dX1_groupSum_2 : decode cX1_groupSum 2 = .ok (.invokevirtual 60, 3) := by decide +kernel
theorem dX1_groupSum_5 : decode cX1_groupSum 5 = .ok (.ifCond .eq 20, 3) := by decide +kernel
theorem dX1_groupSum_8 : decode cX1_groupSum 8 = .ok (.aload_n 0, 1) := by decide +kernel
theorem dX1_groupSum_9 : decode cX1_groupSum 9 = .ok (.iload_n 2, 1) := by decide +kernel
theorem dX1_groupSum_10 : decode cX1_groupSum 10 = .ok (.invokevirtual 60, 3) := by decide +kernel
theorem dX1_groupSum_13 : decode cX1_groupSum 13 = .ok (.ifCond .eq 12, 3) := by decide +kernel
theorem dX1_groupSum_16 : decode cX1_groupSum 16 = .ok (.aload_n 0, 1) := by decide +kernel
theorem dX1_groupSum_17 : decode cX1_groupSum 17 = .ok (.iload_n 1, 1) := by decide +kernel
theorem dX1_groupSum_18 : decode cX1_groupSum 18 = .ok (.iload_n 2, 1) := by decide +kernel
theorem dX1_groupSum_19 : decode cX1_groupSum 19 = .ok (.invokevirtual 67, 3) := by decide +kernel
theorem dX1_groupSum_22 : decode cX1_groupSum 22 = .ok (.goto 4, 3) := by decide +kernel
theorem dX1_groupSum_25 : decode cX1_groupSum 25 = .ok (.iconst (-1), 1) := by decide +kernel
theorem dX1_groupSum_26 : decode cX1_groupSum 26 = .ok (.ireturn, 1) := by decide +kernel
abbrev cX1_orderOf : ByteArray := prog_3_method_28_code
def yX1_orderOf : MethodName := ⟨RX1, "orderOf", "(I)I"⟩
theorem dX1_orderOf_0 : decode cX1_orderOf 0 = .ok (.aload_n 0, 1) := by decide +kernel
theorem dX1_orderOf_1 : decode cX1_orderOf 1 = .ok (.iload_n 1, 1) := by decide +kernel
theorem dX1_orderOf_2 : decode cX1_orderOf 2 = .ok (.invokevirtual 80, 3) := by decide +kernel
theorem dX1_orderOf_5 : decode cX1_orderOf 5 = .ok (.ifCond .ne 5, 3) := by decide +kernel
theorem dX1_orderOf_8 : decode cX1_orderOf 8 = .ok (.iconst (-1), 1) := by decide +kernel
theorem dX1_orderOf_9 : decode cX1_orderOf 9 = .ok (.ireturn, 1) := by decide +kernel
theorem dX1_orderOf_10 : decode cX1_orderOf 10 = .ok (.aload_n 0, 1) := by decide +kernel
theorem dX1_orderOf_11 : decode cX1_orderOf 11 = .ok (.invokevirtual 83, 3) := by decide +kernel
theorem dX1_orderOf_14 : decode cX1_orderOf 14 = .ok (.istore_n 2, 1) := by decide +kernel
theorem dX1_orderOf_15 : decode cX1_orderOf 15 = .ok (.iload_n 1, 1) := by decide +kernel
theorem dX1_orderOf_16 : decode cX1_orderOf 16 = .ok (.istore_n 3, 1) := by decide +kernel
theorem dX1_orderOf_17 : decode cX1_orderOf 17 = .ok (.iconst 1, 1) := by decide +kernel
theorem dX1_orderOf_18 : decode cX1_orderOf 18 = .ok (.istore 4, 2) := by decide +kernel
theorem dX1_orderOf_20 : decode cX1_orderOf 20 = .ok (.iload 4, 2) := by decide +kernel
theorem dX1_orderOf_22 : decode cX1_orderOf 22 = .ok (.sipush 625, 3) := by decide +kernel
theorem dX1_orderOf_25 : decode cX1_orderOf 25 = .ok (.if_icmp .gt 24, 3) := by decide +kernel
theorem dX1_orderOf_28 : decode cX1_orderOf 28 = .ok (.iload_n 3, 1) := by decide +kernel
theorem dX1_orderOf_29 : decode cX1_orderOf 29 = .ok (.iload_n 2, 1) := by decide +kernel
theorem dX1_orderOf_30 : decode cX1_orderOf 30 = .ok (.if_icmp .ne 6, 3) := by decide +kernel
theorem dX1_orderOf_33 : decode cX1_orderOf 33 = .ok (.iload 4, 2) := by decide +kernel
theorem dX1_orderOf_35 : decode cX1_orderOf 35 = .ok (.ireturn, 1) := by decide +kernel
theorem dX1_orderOf_36 : decode cX1_orderOf 36 = .ok (.aload_n 0, 1) := by decide +kernel
theorem dX1_orderOf_37 : decode cX1_orderOf 37 = .ok (.iload_n 3, 1) := by decide +kernel
theorem dX1_orderOf_38 : decode cX1_orderOf 38 = .ok (.iload_n 1, 1) := by decide +kernel
theorem dX1_orderOf_39 : decode cX1_orderOf 39 = .ok (.invokevirtual 67, 3) := by decide +kernel
theorem dX1_orderOf_42 : decode cX1_orderOf 42 = .ok (.istore_n 3, 1) := by decide +kernel
theorem dX1_orderOf_43 : decode cX1_orderOf 43 = .ok (.iinc 4 1, 3) := by decide +kernel
theorem dX1_orderOf_46 : decode cX1_orderOf 46 = .ok (.goto (-26), 3) := by decide +kernel
theorem dX1_orderOf_49 : decode cX1_orderOf 49 = .ok (.iconst (-1), 1) := by decide +kernel
theorem dX1_orderOf_50 : decode cX1_orderOf 50 = .ok (.ireturn, 1) := by decide +kernel
abbrev cX1_recurrentOf : ByteArray := prog_3_method_29_code
def yX1_recurrentOf : MethodName := ⟨RX1, "recurrentOf", "(I)I"⟩
theorem dX1_recurrentOf_0 : decode cX1_recurrentOf 0 = .ok (.aload_n 0, 1) := by decide +kernel
theorem dX1_recurrentOf_1 : decode cX1_recurrentOf 1 = .ok (.iload_n 1, 1) := by decide +kernel
theorem dX1_recurrentOf_2 : decode cX1_recurrentOf 2 = .ok (.invokevirtual 60, 3) := by decide +kernel
theorem dX1_recurrentOf_5 : decode cX1_recurrentOf 5 = .ok (.ifCond .ne 5, 3) := by decide +kernel
theorem dX1_recurrentOf_8 : decode cX1_recurrentOf 8 = .ok (.iconst (-1), 1) := by decide +kernel
theorem dX1_recurrentOf_9 : decode cX1_recurrentOf 9 = .ok (.ireturn, 1) := by decide +kernel
theorem dX1_recurrentOf_10 : decode cX1_recurrentOf 10 = .ok (.aload_n 0, 1) := by decide +kernel
theorem dX1_recurrentOf_11 : decode cX1_recurrentOf 11 = .ok (.invokevirtual 83, 3) := by decide +kernel
theorem dX1_recurrentOf_14 : decode cX1_recurrentOf 14 = .ok (.istore_n 2, 1) := by decide +kernel
theorem dX1_recurrentOf_15 : decode cX1_recurrentOf 15 = .ok (.aload_n 0, 1) := by decide +kernel
theorem dX1_recurrentOf_16 : decode cX1_recurrentOf 16 = .ok (.iload_n 2, 1) := by decide +kernel
theorem dX1_recurrentOf_17 : decode cX1_recurrentOf 17 = .ok (.iload_n 1, 1) := by decide +kernel
theorem dX1_recurrentOf_18 : decode cX1_recurrentOf 18 = .ok (.invokevirtual 67, 3) := by decide +kernel
theorem dX1_recurrentOf_21 : decode cX1_recurrentOf 21 = .ok (.ireturn, 1) := by decide +kernel
theorem q31 : (Jvm.Cond.initialized "SandpileLabModel") ∈ lw_all := lw_g (lw_at lw_m1 2 rfl) rfl
theorem q183 : (Jvm.Cond.instantiable "SandpileLabModel" (7 : Nat)) ∈ lw_all := lw_g (lw_at lw_m1 154 rfl) rfl
theorem q185 : (Jvm.Cond.instanceMethod ({ cls := "SandpileLabModel", name := "<init>", desc := "()V" } : Jvm.MethodName)) ∈ lw_all := lw_g (lw_at lw_m1 156 rfl) rfl
theorem q186 : (Jvm.Cond.code ({ cls := "SandpileLabModel", name := "<init>", desc := "()V" } : Jvm.MethodName) prog_3_method_1_code (2 : Nat) (Option.none : Option Jvm.ClassFile.FieldType)) ∈ lw_all := lw_g (lw_at lw_m1 157 rfl) rfl
theorem q187 : (Jvm.Cond.methodLink "SandpileLabModel" (1 : Nat) ({ cls := "java/lang/Object", name := "<init>", desc := "()V" } : Jvm.MethodName)) ∈ lw_all := lw_g (lw_at lw_m1 158 rfl) rfl
theorem q188 : (Jvm.Cond.fieldLink "SandpileLabModel" (7 : Nat) "SandpileLabModel" "near" "[I") ∈ lw_all := lw_g (lw_at lw_m1 159 rfl) rfl
theorem q189 : (Jvm.Cond.fieldLink "SandpileLabModel" (13 : Nat) "SandpileLabModel" "sinks" "[I") ∈ lw_all := lw_g (lw_at lw_m1 160 rfl) rfl
theorem q190 : (Jvm.Cond.fieldLink "SandpileLabModel" (16 : Nat) "SandpileLabModel" "grains" "[I") ∈ lw_all := lw_g (lw_at lw_m1 161 rfl) rfl
theorem q191 : (Jvm.Cond.fieldLink "SandpileLabModel" (19 : Nat) "SandpileLabModel" "work" "[I") ∈ lw_all := lw_g (lw_at lw_m1 162 rfl) rfl
theorem q192 : (Jvm.Cond.fieldLink "SandpileLabModel" (22 : Nat) "SandpileLabModel" "found" "[Z") ∈ lw_all := lw_g (lw_at lw_m1 163 rfl) rfl
theorem q193 : (Jvm.Cond.fieldLink "SandpileLabModel" (26 : Nat) "SandpileLabModel" "known" "Z") ∈ lw_all := lw_g (lw_at lw_m1 164 rfl) rfl
theorem q194 : (Jvm.Cond.fieldLink "SandpileLabModel" (45 : Nat) "SandpileLabModel" "topples" "I") ∈ lw_all := lw_g (lw_at lw_m1 165 rfl) rfl
theorem q195 : (Jvm.Cond.lays "SandpileLabModel" "SandpileLabModel" "near" "[I") ∈ lw_all := lw_g (lw_at lw_m1 166 rfl) rfl
theorem q196 : (Jvm.Cond.soleField "SandpileLabModel" "near") ∈ lw_all := lw_g (lw_at lw_m1 167 rfl) rfl
theorem q197 : (Jvm.Cond.lays "SandpileLabModel" "SandpileLabModel" "sinks" "[I") ∈ lw_all := lw_g (lw_at lw_m1 168 rfl) rfl
theorem q198 : (Jvm.Cond.soleField "SandpileLabModel" "sinks") ∈ lw_all := lw_g (lw_at lw_m1 169 rfl) rfl
theorem q199 : (Jvm.Cond.lays "SandpileLabModel" "SandpileLabModel" "grains" "[I") ∈ lw_all := lw_g (lw_at lw_m1 170 rfl) rfl
theorem q200 : (Jvm.Cond.soleField "SandpileLabModel" "grains") ∈ lw_all := lw_g (lw_at lw_m1 171 rfl) rfl
theorem q201 : (Jvm.Cond.lays "SandpileLabModel" "SandpileLabModel" "work" "[I") ∈ lw_all := lw_g (lw_at lw_m1 172 rfl) rfl
theorem q202 : (Jvm.Cond.soleField "SandpileLabModel" "work") ∈ lw_all := lw_g (lw_at lw_m1 173 rfl) rfl
theorem q203 : (Jvm.Cond.lays "SandpileLabModel" "SandpileLabModel" "found" "[Z") ∈ lw_all := lw_g (lw_at lw_m1 174 rfl) rfl
theorem q204 : (Jvm.Cond.soleField "SandpileLabModel" "found") ∈ lw_all := lw_g (lw_at lw_m1 175 rfl) rfl
theorem q205 : (Jvm.Cond.lays "SandpileLabModel" "SandpileLabModel" "known" "Z") ∈ lw_all := lw_g (lw_at lw_m1 176 rfl) rfl
theorem q206 : (Jvm.Cond.soleField "SandpileLabModel" "known") ∈ lw_all := lw_g (lw_at lw_m1 177 rfl) rfl
theorem q207 : (Jvm.Cond.lays "SandpileLabModel" "SandpileLabModel" "topples" "I") ∈ lw_all := lw_g (lw_at lw_m1 178 rfl) rfl
theorem q208 : (Jvm.Cond.soleField "SandpileLabModel" "topples") ∈ lw_all := lw_g (lw_at lw_m1 179 rfl) rfl
theorem q209 : (Jvm.Cond.superclass "SandpileLabModel" "java/lang/Object") ∈ lw_all := lw_g (lw_at lw_m1 180 rfl) rfl
theorem q212 : (Jvm.Cond.instanceMethod ({ cls := "SandpileLabModel", name := "edge", desc := "(IIZ)Z" } : Jvm.MethodName)) ∈ lw_all := lw_g (lw_at lw_m1 183 rfl) rfl
theorem q213 : (Jvm.Cond.selects "SandpileLabModel" ({ cls := "SandpileLabModel", name := "edge", desc := "(IIZ)Z" } : Jvm.MethodName) ({ cls := "SandpileLabModel", name := "edge", desc := "(IIZ)Z" } : Jvm.MethodName)) ∈ lw_all := lw_g (lw_at lw_m1 184 rfl) rfl
theorem q214 : (Jvm.Cond.code ({ cls := "SandpileLabModel", name := "edge", desc := "(IIZ)Z" } : Jvm.MethodName) prog_3_method_5_code (4 : Nat) (Option.some Jvm.ClassFile.FieldType.boolean)) ∈ lw_all := lw_g (lw_at lw_m1 185 rfl) rfl
theorem q215 : (Jvm.Cond.methodLink "SandpileLabModel" (30 : Nat) ({ cls := "SandpileLabModel", name := "isPlace", desc := "(I)Z" } : Jvm.MethodName)) ∈ lw_all := lw_g (lw_at lw_m1 186 rfl) rfl
theorem q216 : (Jvm.Cond.privateMethod ({ cls := "SandpileLabModel", name := "isPlace", desc := "(I)Z" } : Jvm.MethodName)) ∈ lw_tbl := lw_at lw_m1 187 rfl
theorem q217 : (Jvm.Cond.instanceMethod ({ cls := "SandpileLabModel", name := "isPlace", desc := "(I)Z" } : Jvm.MethodName)) ∈ lw_all := lw_g (lw_at lw_m1 188 rfl) rfl
theorem q218 : (Jvm.Cond.code ({ cls := "SandpileLabModel", name := "isPlace", desc := "(I)Z" } : Jvm.MethodName) prog_3_method_2_code (2 : Nat) (Option.some Jvm.ClassFile.FieldType.boolean)) ∈ lw_all := lw_g (lw_at lw_m1 189 rfl) rfl
theorem q219 : (Jvm.Cond.methodLink "SandpileLabModel" (34 : Nat) ({ cls := "SandpileLabModel", name := "vanish", desc := "()V" } : Jvm.MethodName)) ∈ lw_all := lw_g (lw_at lw_m1 190 rfl) rfl
theorem q220 : (Jvm.Cond.privateMethod ({ cls := "SandpileLabModel", name := "vanish", desc := "()V" } : Jvm.MethodName)) ∈ lw_tbl := lw_at lw_m1 191 rfl
theorem q221 : (Jvm.Cond.instanceMethod ({ cls := "SandpileLabModel", name := "vanish", desc := "()V" } : Jvm.MethodName)) ∈ lw_all := lw_g (lw_at lw_m1 192 rfl) rfl
theorem q222 : (Jvm.Cond.code ({ cls := "SandpileLabModel", name := "vanish", desc := "()V" } : Jvm.MethodName) prog_3_method_4_code (2 : Nat) (Option.none : Option Jvm.ClassFile.FieldType)) ∈ lw_all := lw_g (lw_at lw_m1 193 rfl) rfl
theorem q224 : (Jvm.Cond.instanceMethod ({ cls := "SandpileLabModel", name := "sink", desc := "(II)Z" } : Jvm.MethodName)) ∈ lw_all := lw_g (lw_at lw_m1 195 rfl) rfl
theorem q225 : (Jvm.Cond.selects "SandpileLabModel" ({ cls := "SandpileLabModel", name := "sink", desc := "(II)Z" } : Jvm.MethodName) ({ cls := "SandpileLabModel", name := "sink", desc := "(II)Z" } : Jvm.MethodName)) ∈ lw_all := lw_g (lw_at lw_m1 196 rfl) rfl
theorem q226 : (Jvm.Cond.code ({ cls := "SandpileLabModel", name := "sink", desc := "(II)Z" } : Jvm.MethodName) prog_3_method_6_code (3 : Nat) (Option.some Jvm.ClassFile.FieldType.boolean)) ∈ lw_all := lw_g (lw_at lw_m1 197 rfl) rfl
theorem q228 : (Jvm.Cond.instanceMethod ({ cls := "SandpileLabModel", name := "drop", desc := "(II)I" } : Jvm.MethodName)) ∈ lw_all := lw_g (lw_at lw_m1 199 rfl) rfl
theorem q229 : (Jvm.Cond.selects "SandpileLabModel" ({ cls := "SandpileLabModel", name := "drop", desc := "(II)I" } : Jvm.MethodName) ({ cls := "SandpileLabModel", name := "drop", desc := "(II)I" } : Jvm.MethodName)) ∈ lw_all := lw_g (lw_at lw_m1 200 rfl) rfl
theorem q230 : (Jvm.Cond.code ({ cls := "SandpileLabModel", name := "drop", desc := "(II)I" } : Jvm.MethodName) prog_3_method_12_code (4 : Nat) (Option.some Jvm.ClassFile.FieldType.int)) ∈ lw_all := lw_g (lw_at lw_m1 201 rfl) rfl
theorem q231 : (Jvm.Cond.methodLink "SandpileLabModel" (53 : Nat) ({ cls := "SandpileLabModel", name := "settle", desc := "()V" } : Jvm.MethodName)) ∈ lw_all := lw_g (lw_at lw_m1 202 rfl) rfl
theorem q232 : (Jvm.Cond.privateMethod ({ cls := "SandpileLabModel", name := "settle", desc := "()V" } : Jvm.MethodName)) ∈ lw_tbl := lw_at lw_m1 203 rfl
theorem q233 : (Jvm.Cond.instanceMethod ({ cls := "SandpileLabModel", name := "settle", desc := "()V" } : Jvm.MethodName)) ∈ lw_all := lw_g (lw_at lw_m1 204 rfl) rfl
theorem q234 : (Jvm.Cond.code ({ cls := "SandpileLabModel", name := "settle", desc := "()V" } : Jvm.MethodName) prog_3_method_9_code (4 : Nat) (Option.none : Option Jvm.ClassFile.FieldType)) ∈ lw_all := lw_g (lw_at lw_m1 205 rfl) rfl
theorem q235 : (Jvm.Cond.methodLink "SandpileLabModel" (41 : Nat) ({ cls := "SandpileLabModel", name := "degreeOf", desc := "(I)I" } : Jvm.MethodName)) ∈ lw_all := lw_g (lw_at lw_m1 206 rfl) rfl
theorem q236 : (Jvm.Cond.privateMethod ({ cls := "SandpileLabModel", name := "degreeOf", desc := "(I)I" } : Jvm.MethodName)) ∈ lw_tbl := lw_at lw_m1 207 rfl
theorem q237 : (Jvm.Cond.instanceMethod ({ cls := "SandpileLabModel", name := "degreeOf", desc := "(I)I" } : Jvm.MethodName)) ∈ lw_all := lw_g (lw_at lw_m1 208 rfl) rfl
theorem q238 : (Jvm.Cond.code ({ cls := "SandpileLabModel", name := "degreeOf", desc := "(I)I" } : Jvm.MethodName) prog_3_method_7_code (4 : Nat) (Option.some Jvm.ClassFile.FieldType.int)) ∈ lw_all := lw_g (lw_at lw_m1 209 rfl) rfl
theorem q239 : (Jvm.Cond.methodLink "SandpileLabModel" (37 : Nat) ({ cls := "SandpileLabModel", name := "in", desc := "(II)Z" } : Jvm.MethodName)) ∈ lw_all := lw_g (lw_at lw_m1 210 rfl) rfl
theorem q240 : (Jvm.Cond.privateMethod ({ cls := "SandpileLabModel", name := "in", desc := "(II)Z" } : Jvm.MethodName)) ∈ lw_tbl := lw_at lw_m1 211 rfl
theorem q241 : (Jvm.Cond.instanceMethod ({ cls := "SandpileLabModel", name := "in", desc := "(II)Z" } : Jvm.MethodName)) ∈ lw_all := lw_g (lw_at lw_m1 212 rfl) rfl
theorem q242 : (Jvm.Cond.code ({ cls := "SandpileLabModel", name := "in", desc := "(II)Z" } : Jvm.MethodName) prog_3_method_3_code (3 : Nat) (Option.some Jvm.ClassFile.FieldType.boolean)) ∈ lw_all := lw_g (lw_at lw_m1 213 rfl) rfl
theorem q243 : (Jvm.Cond.methodLink "SandpileLabModel" (49 : Nat) ({ cls := "SandpileLabModel", name := "topple", desc := "(I)V" } : Jvm.MethodName)) ∈ lw_all := lw_g (lw_at lw_m1 214 rfl) rfl
theorem q244 : (Jvm.Cond.privateMethod ({ cls := "SandpileLabModel", name := "topple", desc := "(I)V" } : Jvm.MethodName)) ∈ lw_tbl := lw_at lw_m1 215 rfl
theorem q245 : (Jvm.Cond.instanceMethod ({ cls := "SandpileLabModel", name := "topple", desc := "(I)V" } : Jvm.MethodName)) ∈ lw_all := lw_g (lw_at lw_m1 216 rfl) rfl
theorem q246 : (Jvm.Cond.code ({ cls := "SandpileLabModel", name := "topple", desc := "(I)V" } : Jvm.MethodName) prog_3_method_8_code (3 : Nat) (Option.none : Option Jvm.ClassFile.FieldType)) ∈ lw_all := lw_g (lw_at lw_m1 217 rfl) rfl
theorem q248 : (Jvm.Cond.instanceMethod ({ cls := "SandpileLabModel", name := "state", desc := "()I" } : Jvm.MethodName)) ∈ lw_all := lw_g (lw_at lw_m1 219 rfl) rfl
theorem q249 : (Jvm.Cond.selects "SandpileLabModel" ({ cls := "SandpileLabModel", name := "state", desc := "()I" } : Jvm.MethodName) ({ cls := "SandpileLabModel", name := "state", desc := "()I" } : Jvm.MethodName)) ∈ lw_all := lw_g (lw_at lw_m1 220 rfl) rfl
theorem q250 : (Jvm.Cond.code ({ cls := "SandpileLabModel", name := "state", desc := "()I" } : Jvm.MethodName) prog_3_method_13_code (1 : Nat) (Option.some Jvm.ClassFile.FieldType.int)) ∈ lw_all := lw_g (lw_at lw_m1 221 rfl) rfl
theorem q252 : (Jvm.Cond.instanceMethod ({ cls := "SandpileLabModel", name := "set", desc := "(I)Z" } : Jvm.MethodName)) ∈ lw_all := lw_g (lw_at lw_m1 223 rfl) rfl
theorem q253 : (Jvm.Cond.selects "SandpileLabModel" ({ cls := "SandpileLabModel", name := "set", desc := "(I)Z" } : Jvm.MethodName) ({ cls := "SandpileLabModel", name := "set", desc := "(I)Z" } : Jvm.MethodName)) ∈ lw_all := lw_g (lw_at lw_m1 224 rfl) rfl
theorem q254 : (Jvm.Cond.code ({ cls := "SandpileLabModel", name := "set", desc := "(I)Z" } : Jvm.MethodName) prog_3_method_15_code (3 : Nat) (Option.some Jvm.ClassFile.FieldType.boolean)) ∈ lw_all := lw_g (lw_at lw_m1 225 rfl) rfl
theorem q255 : (Jvm.Cond.methodLink "SandpileLabModel" (60 : Nat) ({ cls := "SandpileLabModel", name := "isStable", desc := "(I)Z" } : Jvm.MethodName)) ∈ lw_all := lw_g (lw_at lw_m1 226 rfl) rfl
theorem q256 : (Jvm.Cond.privateMethod ({ cls := "SandpileLabModel", name := "isStable", desc := "(I)Z" } : Jvm.MethodName)) ∈ lw_tbl := lw_at lw_m1 227 rfl
theorem q257 : (Jvm.Cond.instanceMethod ({ cls := "SandpileLabModel", name := "isStable", desc := "(I)Z" } : Jvm.MethodName)) ∈ lw_all := lw_g (lw_at lw_m1 228 rfl) rfl
theorem q258 : (Jvm.Cond.code ({ cls := "SandpileLabModel", name := "isStable", desc := "(I)Z" } : Jvm.MethodName) prog_3_method_14_code (3 : Nat) (Option.some Jvm.ClassFile.FieldType.boolean)) ∈ lw_all := lw_g (lw_at lw_m1 229 rfl) rfl
theorem q259 : (Jvm.Cond.methodLink "SandpileLabModel" (56 : Nat) ({ cls := "SandpileLabModel", name := "digit", desc := "(II)I" } : Jvm.MethodName)) ∈ lw_all := lw_g (lw_at lw_m1 230 rfl) rfl
theorem q260 : (Jvm.Cond.privateMethod ({ cls := "SandpileLabModel", name := "digit", desc := "(II)I" } : Jvm.MethodName)) ∈ lw_tbl := lw_at lw_m1 231 rfl
theorem q261 : (Jvm.Cond.instanceMethod ({ cls := "SandpileLabModel", name := "digit", desc := "(II)I" } : Jvm.MethodName)) ∈ lw_all := lw_g (lw_at lw_m1 232 rfl) rfl
theorem q262 : (Jvm.Cond.code ({ cls := "SandpileLabModel", name := "digit", desc := "(II)I" } : Jvm.MethodName) prog_3_method_10_code (3 : Nat) (Option.some Jvm.ClassFile.FieldType.int)) ∈ lw_all := lw_g (lw_at lw_m1 233 rfl) rfl
theorem q264 : (Jvm.Cond.instanceMethod ({ cls := "SandpileLabModel", name := "degree", desc := "(I)I" } : Jvm.MethodName)) ∈ lw_all := lw_g (lw_at lw_m1 235 rfl) rfl
theorem q265 : (Jvm.Cond.selects "SandpileLabModel" ({ cls := "SandpileLabModel", name := "degree", desc := "(I)I" } : Jvm.MethodName) ({ cls := "SandpileLabModel", name := "degree", desc := "(I)I" } : Jvm.MethodName)) ∈ lw_all := lw_g (lw_at lw_m1 236 rfl) rfl
theorem q266 : (Jvm.Cond.code ({ cls := "SandpileLabModel", name := "degree", desc := "(I)I" } : Jvm.MethodName) prog_3_method_16_code (2 : Nat) (Option.some Jvm.ClassFile.FieldType.int)) ∈ lw_all := lw_g (lw_at lw_m1 237 rfl) rfl
theorem q268 : (Jvm.Cond.instanceMethod ({ cls := "SandpileLabModel", name := "recurrent", desc := "(I)Z" } : Jvm.MethodName)) ∈ lw_all := lw_g (lw_at lw_m1 239 rfl) rfl
theorem q269 : (Jvm.Cond.selects "SandpileLabModel" ({ cls := "SandpileLabModel", name := "recurrent", desc := "(I)Z" } : Jvm.MethodName) ({ cls := "SandpileLabModel", name := "recurrent", desc := "(I)Z" } : Jvm.MethodName)) ∈ lw_all := lw_g (lw_at lw_m2 0 rfl) rfl
theorem q270 : (Jvm.Cond.code ({ cls := "SandpileLabModel", name := "recurrent", desc := "(I)Z" } : Jvm.MethodName) prog_3_method_22_code (2 : Nat) (Option.some Jvm.ClassFile.FieldType.boolean)) ∈ lw_all := lw_g (lw_at lw_m2 1 rfl) rfl
theorem q271 : (Jvm.Cond.methodLink "SandpileLabModel" (80 : Nat) ({ cls := "SandpileLabModel", name := "isRecurrent", desc := "(I)Z" } : Jvm.MethodName)) ∈ lw_all := lw_g (lw_at lw_m2 2 rfl) rfl
theorem q272 : (Jvm.Cond.privateMethod ({ cls := "SandpileLabModel", name := "isRecurrent", desc := "(I)Z" } : Jvm.MethodName)) ∈ lw_tbl := lw_at lw_m2 3 rfl
theorem q273 : (Jvm.Cond.instanceMethod ({ cls := "SandpileLabModel", name := "isRecurrent", desc := "(I)Z" } : Jvm.MethodName)) ∈ lw_all := lw_g (lw_at lw_m2 4 rfl) rfl
theorem q274 : (Jvm.Cond.code ({ cls := "SandpileLabModel", name := "isRecurrent", desc := "(I)Z" } : Jvm.MethodName) prog_3_method_21_code (2 : Nat) (Option.some Jvm.ClassFile.FieldType.boolean)) ∈ lw_all := lw_g (lw_at lw_m2 5 rfl) rfl
theorem q275 : (Jvm.Cond.methodLink "SandpileLabModel" (77 : Nat) ({ cls := "SandpileLabModel", name := "findRecurrent", desc := "()V" } : Jvm.MethodName)) ∈ lw_all := lw_g (lw_at lw_m2 6 rfl) rfl
theorem q276 : (Jvm.Cond.privateMethod ({ cls := "SandpileLabModel", name := "findRecurrent", desc := "()V" } : Jvm.MethodName)) ∈ lw_tbl := lw_at lw_m2 7 rfl
theorem q277 : (Jvm.Cond.instanceMethod ({ cls := "SandpileLabModel", name := "findRecurrent", desc := "()V" } : Jvm.MethodName)) ∈ lw_all := lw_g (lw_at lw_m2 8 rfl) rfl
theorem q278 : (Jvm.Cond.code ({ cls := "SandpileLabModel", name := "findRecurrent", desc := "()V" } : Jvm.MethodName) prog_3_method_20_code (4 : Nat) (Option.none : Option Jvm.ClassFile.FieldType)) ∈ lw_all := lw_g (lw_at lw_m2 9 rfl) rfl
theorem q279 : (Jvm.Cond.methodLink "SandpileLabModel" (70 : Nat) ({ cls := "SandpileLabModel", name := "full", desc := "()I" } : Jvm.MethodName)) ∈ lw_all := lw_g (lw_at lw_m2 10 rfl) rfl
theorem q280 : (Jvm.Cond.privateMethod ({ cls := "SandpileLabModel", name := "full", desc := "()I" } : Jvm.MethodName)) ∈ lw_tbl := lw_at lw_m2 11 rfl
theorem q281 : (Jvm.Cond.instanceMethod ({ cls := "SandpileLabModel", name := "full", desc := "()I" } : Jvm.MethodName)) ∈ lw_all := lw_g (lw_at lw_m2 12 rfl) rfl
theorem q282 : (Jvm.Cond.code ({ cls := "SandpileLabModel", name := "full", desc := "()I" } : Jvm.MethodName) prog_3_method_18_code (2 : Nat) (Option.some Jvm.ClassFile.FieldType.int)) ∈ lw_all := lw_g (lw_at lw_m2 13 rfl) rfl
theorem q283 : (Jvm.Cond.methodLink "SandpileLabModel" (63 : Nat) ({ cls := "SandpileLabModel", name := "written", desc := "()I" } : Jvm.MethodName)) ∈ lw_all := lw_g (lw_at lw_m2 14 rfl) rfl
theorem q284 : (Jvm.Cond.privateMethod ({ cls := "SandpileLabModel", name := "written", desc := "()I" } : Jvm.MethodName)) ∈ lw_tbl := lw_at lw_m2 15 rfl
theorem q285 : (Jvm.Cond.instanceMethod ({ cls := "SandpileLabModel", name := "written", desc := "()I" } : Jvm.MethodName)) ∈ lw_all := lw_g (lw_at lw_m2 16 rfl) rfl
theorem q286 : (Jvm.Cond.code ({ cls := "SandpileLabModel", name := "written", desc := "()I" } : Jvm.MethodName) prog_3_method_11_code (1 : Nat) (Option.some Jvm.ClassFile.FieldType.int)) ∈ lw_all := lw_g (lw_at lw_m2 17 rfl) rfl
theorem q287 : (Jvm.Cond.methodLink "SandpileLabModel" (73 : Nat) ({ cls := "SandpileLabModel", name := "spread", desc := "()Z" } : Jvm.MethodName)) ∈ lw_all := lw_g (lw_at lw_m2 18 rfl) rfl
theorem q288 : (Jvm.Cond.privateMethod ({ cls := "SandpileLabModel", name := "spread", desc := "()Z" } : Jvm.MethodName)) ∈ lw_tbl := lw_at lw_m2 19 rfl
theorem q289 : (Jvm.Cond.instanceMethod ({ cls := "SandpileLabModel", name := "spread", desc := "()Z" } : Jvm.MethodName)) ∈ lw_all := lw_g (lw_at lw_m2 20 rfl) rfl
theorem q290 : (Jvm.Cond.code ({ cls := "SandpileLabModel", name := "spread", desc := "()Z" } : Jvm.MethodName) prog_3_method_19_code (5 : Nat) (Option.some Jvm.ClassFile.FieldType.boolean)) ∈ lw_all := lw_g (lw_at lw_m2 21 rfl) rfl
theorem q291 : (Jvm.Cond.methodLink "SandpileLabModel" (67 : Nat) ({ cls := "SandpileLabModel", name := "sum", desc := "(II)I" } : Jvm.MethodName)) ∈ lw_all := lw_g (lw_at lw_m2 22 rfl) rfl
theorem q292 : (Jvm.Cond.privateMethod ({ cls := "SandpileLabModel", name := "sum", desc := "(II)I" } : Jvm.MethodName)) ∈ lw_tbl := lw_at lw_m2 23 rfl
theorem q293 : (Jvm.Cond.instanceMethod ({ cls := "SandpileLabModel", name := "sum", desc := "(II)I" } : Jvm.MethodName)) ∈ lw_all := lw_g (lw_at lw_m2 24 rfl) rfl
theorem q294 : (Jvm.Cond.code ({ cls := "SandpileLabModel", name := "sum", desc := "(II)I" } : Jvm.MethodName) prog_3_method_17_code (4 : Nat) (Option.some Jvm.ClassFile.FieldType.int)) ∈ lw_all := lw_g (lw_at lw_m2 25 rfl) rfl
theorem q296 : (Jvm.Cond.instanceMethod ({ cls := "SandpileLabModel", name := "order", desc := "()I" } : Jvm.MethodName)) ∈ lw_all := lw_g (lw_at lw_m2 27 rfl) rfl
theorem q297 : (Jvm.Cond.selects "SandpileLabModel" ({ cls := "SandpileLabModel", name := "order", desc := "()I" } : Jvm.MethodName) ({ cls := "SandpileLabModel", name := "order", desc := "()I" } : Jvm.MethodName)) ∈ lw_all := lw_g (lw_at lw_m2 28 rfl) rfl
theorem q298 : (Jvm.Cond.code ({ cls := "SandpileLabModel", name := "order", desc := "()I" } : Jvm.MethodName) prog_3_method_23_code (3 : Nat) (Option.some Jvm.ClassFile.FieldType.int)) ∈ lw_all := lw_g (lw_at lw_m2 29 rfl) rfl
theorem q300 : (Jvm.Cond.instanceMethod ({ cls := "SandpileLabModel", name := "neutral", desc := "()I" } : Jvm.MethodName)) ∈ lw_all := lw_g (lw_at lw_m2 31 rfl) rfl
theorem q301 : (Jvm.Cond.selects "SandpileLabModel" ({ cls := "SandpileLabModel", name := "neutral", desc := "()I" } : Jvm.MethodName) ({ cls := "SandpileLabModel", name := "neutral", desc := "()I" } : Jvm.MethodName)) ∈ lw_all := lw_g (lw_at lw_m2 32 rfl) rfl
theorem q302 : (Jvm.Cond.code ({ cls := "SandpileLabModel", name := "neutral", desc := "()I" } : Jvm.MethodName) prog_3_method_25_code (1 : Nat) (Option.some Jvm.ClassFile.FieldType.int)) ∈ lw_all := lw_g (lw_at lw_m2 33 rfl) rfl
theorem q303 : (Jvm.Cond.methodLink "SandpileLabModel" (83 : Nat) ({ cls := "SandpileLabModel", name := "neutralState", desc := "()I" } : Jvm.MethodName)) ∈ lw_all := lw_g (lw_at lw_m2 34 rfl) rfl
theorem q304 : (Jvm.Cond.privateMethod ({ cls := "SandpileLabModel", name := "neutralState", desc := "()I" } : Jvm.MethodName)) ∈ lw_tbl := lw_at lw_m2 35 rfl
theorem q305 : (Jvm.Cond.instanceMethod ({ cls := "SandpileLabModel", name := "neutralState", desc := "()I" } : Jvm.MethodName)) ∈ lw_all := lw_g (lw_at lw_m2 36 rfl) rfl
theorem q306 : (Jvm.Cond.code ({ cls := "SandpileLabModel", name := "neutralState", desc := "()I" } : Jvm.MethodName) prog_3_method_24_code (3 : Nat) (Option.some Jvm.ClassFile.FieldType.int)) ∈ lw_all := lw_g (lw_at lw_m2 37 rfl) rfl
theorem q308 : (Jvm.Cond.instanceMethod ({ cls := "SandpileLabModel", name := "opposite", desc := "(I)I" } : Jvm.MethodName)) ∈ lw_all := lw_g (lw_at lw_m2 39 rfl) rfl
theorem q309 : (Jvm.Cond.selects "SandpileLabModel" ({ cls := "SandpileLabModel", name := "opposite", desc := "(I)I" } : Jvm.MethodName) ({ cls := "SandpileLabModel", name := "opposite", desc := "(I)I" } : Jvm.MethodName)) ∈ lw_all := lw_g (lw_at lw_m2 40 rfl) rfl
theorem q310 : (Jvm.Cond.code ({ cls := "SandpileLabModel", name := "opposite", desc := "(I)I" } : Jvm.MethodName) prog_3_method_26_code (4 : Nat) (Option.some Jvm.ClassFile.FieldType.int)) ∈ lw_all := lw_g (lw_at lw_m2 41 rfl) rfl
theorem q312 : (Jvm.Cond.instanceMethod ({ cls := "SandpileLabModel", name := "groupSum", desc := "(II)I" } : Jvm.MethodName)) ∈ lw_all := lw_g (lw_at lw_m2 43 rfl) rfl
theorem q313 : (Jvm.Cond.selects "SandpileLabModel" ({ cls := "SandpileLabModel", name := "groupSum", desc := "(II)I" } : Jvm.MethodName) ({ cls := "SandpileLabModel", name := "groupSum", desc := "(II)I" } : Jvm.MethodName)) ∈ lw_all := lw_g (lw_at lw_m2 44 rfl) rfl
theorem q314 : (Jvm.Cond.code ({ cls := "SandpileLabModel", name := "groupSum", desc := "(II)I" } : Jvm.MethodName) prog_3_method_27_code (3 : Nat) (Option.some Jvm.ClassFile.FieldType.int)) ∈ lw_all := lw_g (lw_at lw_m2 45 rfl) rfl
theorem q316 : (Jvm.Cond.instanceMethod ({ cls := "SandpileLabModel", name := "orderOf", desc := "(I)I" } : Jvm.MethodName)) ∈ lw_all := lw_g (lw_at lw_m2 47 rfl) rfl
theorem q317 : (Jvm.Cond.selects "SandpileLabModel" ({ cls := "SandpileLabModel", name := "orderOf", desc := "(I)I" } : Jvm.MethodName) ({ cls := "SandpileLabModel", name := "orderOf", desc := "(I)I" } : Jvm.MethodName)) ∈ lw_all := lw_g (lw_at lw_m2 48 rfl) rfl
theorem q318 : (Jvm.Cond.code ({ cls := "SandpileLabModel", name := "orderOf", desc := "(I)I" } : Jvm.MethodName) prog_3_method_28_code (5 : Nat) (Option.some Jvm.ClassFile.FieldType.int)) ∈ lw_all := lw_g (lw_at lw_m2 49 rfl) rfl
theorem q320 : (Jvm.Cond.instanceMethod ({ cls := "SandpileLabModel", name := "recurrentOf", desc := "(I)I" } : Jvm.MethodName)) ∈ lw_all := lw_g (lw_at lw_m2 51 rfl) rfl
theorem q321 : (Jvm.Cond.selects "SandpileLabModel" ({ cls := "SandpileLabModel", name := "recurrentOf", desc := "(I)I" } : Jvm.MethodName) ({ cls := "SandpileLabModel", name := "recurrentOf", desc := "(I)I" } : Jvm.MethodName)) ∈ lw_all := lw_g (lw_at lw_m2 52 rfl) rfl
theorem q322 : (Jvm.Cond.code ({ cls := "SandpileLabModel", name := "recurrentOf", desc := "(I)I" } : Jvm.MethodName) prog_3_method_29_code (3 : Nat) (Option.some Jvm.ClassFile.FieldType.int)) ∈ lw_all := lw_g (lw_at lw_m2 53 rfl) rfl
theorem in_X1 : ∀ w ∈ wsX10, w ∈ lw_all := lw_in wsX10 [195, 197, 199, 201, 203, 205, 207] (by decide +kernel) (by decide +kernel)
end
section
/-! java/lang/Object -/
set_option maxRecDepth 100000
def RJ0 : String := "java/lang/Object"
abbrev cJ0_init : ByteArray := object_method_1_code
def yJ0_init : MethodName := ⟨RJ0, "<init>", "()V"⟩
theorem dJ0_init_0 : decode cJ0_init 0 = .ok (.return_, 1) := by decide +kernel
theorem q38 : (Jvm.Cond.instanceMethod ({ cls := "java/lang/Object", name := "<init>", desc := "()V" } : Jvm.MethodName)) ∈ lw_all := lw_g (lw_at lw_m1 9 rfl) rfl
theorem q39 : (Jvm.Cond.code ({ cls := "java/lang/Object", name := "<init>", desc := "()V" } : Jvm.MethodName) object_method_1_code (1 : Nat) (Option.none : Option Jvm.ClassFile.FieldType)) ∈ lw_all := lw_g (lw_at lw_m1 10 rfl) rfl
theorem q71 : (Jvm.Cond.arrayClass Jvm.ClassFile.FieldType.byte) ∈ lw_all := lw_g (lw_at lw_m1 42 rfl) rfl
theorem q72 : (Jvm.Cond.arrayClass Jvm.ClassFile.FieldType.int) ∈ lw_all := lw_g (lw_at lw_m1 43 rfl) rfl
theorem q210 : (Jvm.Cond.arrayClass Jvm.ClassFile.FieldType.boolean) ∈ lw_all := lw_g (lw_at lw_m1 181 rfl) rfl
theorem q29 : (Jvm.Cond.initialized "SandpileLabLaw") ∈ lw_all := lw_g (lw_at lw_m1 0 rfl) rfl
theorem q32 : (Jvm.Cond.classLink "SandpileLabLaw" (7 : Nat) "SandpileLab") ∈ lw_all := lw_g (lw_at lw_m1 3 rfl) rfl
theorem q34 : (Jvm.Cond.methodLink "SandpileLabLaw" (9 : Nat) ({ cls := "SandpileLab", name := "<init>", desc := "()V" } : Jvm.MethodName)) ∈ lw_all := lw_g (lw_at lw_m1 5 rfl) rfl
theorem q73 : (Jvm.Cond.methodLink "SandpileLabLaw" (13 : Nat) ({ cls := "SandpileLab", name := "edge", desc := "(IIZ)Z" } : Jvm.MethodName)) ∈ lw_all := lw_g (lw_at lw_m1 44 rfl) rfl
theorem q85 : (Jvm.Cond.methodLink "SandpileLabLaw" (18 : Nat) ({ cls := "SandpileLab", name := "sink", desc := "(II)Z" } : Jvm.MethodName)) ∈ lw_all := lw_g (lw_at lw_m1 56 rfl) rfl
theorem q89 : (Jvm.Cond.methodLink "SandpileLabLaw" (23 : Nat) ({ cls := "SandpileLab", name := "drop", desc := "(II)I" } : Jvm.MethodName)) ∈ lw_all := lw_g (lw_at lw_m1 60 rfl) rfl
theorem q109 : (Jvm.Cond.methodLink "SandpileLabLaw" (28 : Nat) ({ cls := "SandpileLab", name := "state", desc := "()I" } : Jvm.MethodName)) ∈ lw_all := lw_g (lw_at lw_m1 80 rfl) rfl
theorem q113 : (Jvm.Cond.methodLink "SandpileLabLaw" (33 : Nat) ({ cls := "SandpileLab", name := "set", desc := "(I)Z" } : Jvm.MethodName)) ∈ lw_all := lw_g (lw_at lw_m1 84 rfl) rfl
theorem q121 : (Jvm.Cond.methodLink "SandpileLabLaw" (38 : Nat) ({ cls := "SandpileLab", name := "degree", desc := "(I)I" } : Jvm.MethodName)) ∈ lw_all := lw_g (lw_at lw_m1 92 rfl) rfl
theorem q125 : (Jvm.Cond.methodLink "SandpileLabLaw" (43 : Nat) ({ cls := "SandpileLab", name := "recurrent", desc := "(I)Z" } : Jvm.MethodName)) ∈ lw_all := lw_g (lw_at lw_m1 96 rfl) rfl
theorem q133 : (Jvm.Cond.methodLink "SandpileLabLaw" (47 : Nat) ({ cls := "SandpileLab", name := "order", desc := "()I" } : Jvm.MethodName)) ∈ lw_all := lw_g (lw_at lw_m1 104 rfl) rfl
theorem q153 : (Jvm.Cond.methodLink "SandpileLabLaw" (51 : Nat) ({ cls := "SandpileLab", name := "neutral", desc := "()I" } : Jvm.MethodName)) ∈ lw_all := lw_g (lw_at lw_m1 124 rfl) rfl
theorem q157 : (Jvm.Cond.methodLink "SandpileLabLaw" (55 : Nat) ({ cls := "SandpileLab", name := "opposite", desc := "(I)I" } : Jvm.MethodName)) ∈ lw_all := lw_g (lw_at lw_m1 128 rfl) rfl
theorem q162 : (Jvm.Cond.methodLink "SandpileLabLaw" (59 : Nat) ({ cls := "SandpileLab", name := "groupSum", desc := "(II)I" } : Jvm.MethodName)) ∈ lw_all := lw_g (lw_at lw_m1 133 rfl) rfl
theorem q170 : (Jvm.Cond.methodLink "SandpileLabLaw" (63 : Nat) ({ cls := "SandpileLab", name := "orderOf", desc := "(I)I" } : Jvm.MethodName)) ∈ lw_all := lw_g (lw_at lw_m1 141 rfl) rfl
theorem q178 : (Jvm.Cond.methodLink "SandpileLabLaw" (67 : Nat) ({ cls := "SandpileLab", name := "recurrentOf", desc := "(I)I" } : Jvm.MethodName)) ∈ lw_all := lw_g (lw_at lw_m1 149 rfl) rfl
theorem q182 : (Jvm.Cond.classLink "SandpileLabLaw" (10 : Nat) "SandpileLabModel") ∈ lw_all := lw_g (lw_at lw_m1 153 rfl) rfl
theorem q184 : (Jvm.Cond.methodLink "SandpileLabLaw" (12 : Nat) ({ cls := "SandpileLabModel", name := "<init>", desc := "()V" } : Jvm.MethodName)) ∈ lw_all := lw_g (lw_at lw_m1 155 rfl) rfl
theorem q211 : (Jvm.Cond.methodLink "SandpileLabLaw" (17 : Nat) ({ cls := "SandpileLabModel", name := "edge", desc := "(IIZ)Z" } : Jvm.MethodName)) ∈ lw_all := lw_g (lw_at lw_m1 182 rfl) rfl
theorem q223 : (Jvm.Cond.methodLink "SandpileLabLaw" (22 : Nat) ({ cls := "SandpileLabModel", name := "sink", desc := "(II)Z" } : Jvm.MethodName)) ∈ lw_all := lw_g (lw_at lw_m1 194 rfl) rfl
theorem q227 : (Jvm.Cond.methodLink "SandpileLabLaw" (27 : Nat) ({ cls := "SandpileLabModel", name := "drop", desc := "(II)I" } : Jvm.MethodName)) ∈ lw_all := lw_g (lw_at lw_m1 198 rfl) rfl
theorem q247 : (Jvm.Cond.methodLink "SandpileLabLaw" (32 : Nat) ({ cls := "SandpileLabModel", name := "state", desc := "()I" } : Jvm.MethodName)) ∈ lw_all := lw_g (lw_at lw_m1 218 rfl) rfl
theorem q251 : (Jvm.Cond.methodLink "SandpileLabLaw" (37 : Nat) ({ cls := "SandpileLabModel", name := "set", desc := "(I)Z" } : Jvm.MethodName)) ∈ lw_all := lw_g (lw_at lw_m1 222 rfl) rfl
theorem q263 : (Jvm.Cond.methodLink "SandpileLabLaw" (42 : Nat) ({ cls := "SandpileLabModel", name := "degree", desc := "(I)I" } : Jvm.MethodName)) ∈ lw_all := lw_g (lw_at lw_m1 234 rfl) rfl
theorem q267 : (Jvm.Cond.methodLink "SandpileLabLaw" (46 : Nat) ({ cls := "SandpileLabModel", name := "recurrent", desc := "(I)Z" } : Jvm.MethodName)) ∈ lw_all := lw_g (lw_at lw_m1 238 rfl) rfl
theorem q295 : (Jvm.Cond.methodLink "SandpileLabLaw" (50 : Nat) ({ cls := "SandpileLabModel", name := "order", desc := "()I" } : Jvm.MethodName)) ∈ lw_all := lw_g (lw_at lw_m2 26 rfl) rfl
theorem q299 : (Jvm.Cond.methodLink "SandpileLabLaw" (54 : Nat) ({ cls := "SandpileLabModel", name := "neutral", desc := "()I" } : Jvm.MethodName)) ∈ lw_all := lw_g (lw_at lw_m2 30 rfl) rfl
theorem q307 : (Jvm.Cond.methodLink "SandpileLabLaw" (58 : Nat) ({ cls := "SandpileLabModel", name := "opposite", desc := "(I)I" } : Jvm.MethodName)) ∈ lw_all := lw_g (lw_at lw_m2 38 rfl) rfl
theorem q311 : (Jvm.Cond.methodLink "SandpileLabLaw" (62 : Nat) ({ cls := "SandpileLabModel", name := "groupSum", desc := "(II)I" } : Jvm.MethodName)) ∈ lw_all := lw_g (lw_at lw_m2 42 rfl) rfl
theorem q315 : (Jvm.Cond.methodLink "SandpileLabLaw" (66 : Nat) ({ cls := "SandpileLabModel", name := "orderOf", desc := "(I)I" } : Jvm.MethodName)) ∈ lw_all := lw_g (lw_at lw_m2 46 rfl) rfl
theorem q319 : (Jvm.Cond.methodLink "SandpileLabLaw" (70 : Nat) ({ cls := "SandpileLabModel", name := "recurrentOf", desc := "(I)I" } : Jvm.MethodName)) ∈ lw_all := lw_g (lw_at lw_m2 50 rfl) rfl
/-! the law's own entry -/
abbrev cL_law : ByteArray := code
theorem dL_law_0 : decode cL_law 0 = .ok (.new 7, 3) := by decide +kernel
theorem dL_law_3 : decode cL_law 3 = .ok (.dup, 1) := by decide +kernel
theorem dL_law_4 : decode cL_law 4 = .ok (.invokespecial 9, 3) := by decide +kernel
theorem dL_law_7 : decode cL_law 7 = .ok (.astore_n 1, 1) := by decide +kernel
theorem dL_law_8 : decode cL_law 8 = .ok (.new 10, 3) := by decide +kernel
theorem dL_law_11 : decode cL_law 11 = .ok (.dup, 1) := by decide +kernel
theorem dL_law_12 : decode cL_law 12 = .ok (.invokespecial 12, 3) := by decide +kernel
theorem dL_law_15 : decode cL_law 15 = .ok (.astore_n 2, 1) := by decide +kernel
theorem dL_law_16 : decode cL_law 16 = .ok (.iconst 0, 1) := by decide +kernel
theorem dL_law_17 : decode cL_law 17 = .ok (.istore_n 3, 1) := by decide +kernel
theorem dL_law_18 : decode cL_law 18 = .ok (.iload_n 3, 1) := by decide +kernel
theorem dL_law_19 : decode cL_law 19 = .ok (.aload_n 0, 1) := by decide +kernel
theorem dL_law_20 : decode cL_law 20 = .ok (.arraylength, 1) := by decide +kernel
theorem dL_law_21 : decode cL_law 21 = .ok (.iconst 4, 1) := by decide +kernel
theorem dL_law_22 : decode cL_law 22 = .ok (.isub, 1) := by decide +kernel
theorem dL_law_23 : decode cL_law 23 = .ok (.if_icmp .gt 418, 3) := by decide +kernel
theorem dL_law_26 : decode cL_law 26 = .ok (.aload_n 0, 1) := by decide +kernel
theorem dL_law_27 : decode cL_law 27 = .ok (.iload_n 3, 1) := by decide +kernel
theorem dL_law_28 : decode cL_law 28 = .ok (.iaload, 1) := by decide +kernel
theorem dL_law_29 : decode cL_law 29 = .ok (.bipush 15, 2) := by decide +kernel
theorem dL_law_31 : decode cL_law 31 = .ok (.iand, 1) := by decide +kernel
theorem dL_law_32 : decode cL_law 32 = .ok (.tableswitch 403 0 12 #[68, 127, 160, 193, 206, 229, 252, 275, 288, 301, 324, 357, 380], 68) := by decide +kernel
theorem dL_law_100 : decode cL_law 100 = .ok (.aload_n 1, 1) := by decide +kernel
theorem dL_law_101 : decode cL_law 101 = .ok (.aload_n 0, 1) := by decide +kernel
theorem dL_law_102 : decode cL_law 102 = .ok (.iload_n 3, 1) := by decide +kernel
theorem dL_law_103 : decode cL_law 103 = .ok (.iconst 1, 1) := by decide +kernel
theorem dL_law_104 : decode cL_law 104 = .ok (.iadd, 1) := by decide +kernel
theorem dL_law_105 : decode cL_law 105 = .ok (.iaload, 1) := by decide +kernel
theorem dL_law_106 : decode cL_law 106 = .ok (.aload_n 0, 1) := by decide +kernel
theorem dL_law_107 : decode cL_law 107 = .ok (.iload_n 3, 1) := by decide +kernel
theorem dL_law_108 : decode cL_law 108 = .ok (.iconst 2, 1) := by decide +kernel
theorem dL_law_109 : decode cL_law 109 = .ok (.iadd, 1) := by decide +kernel
theorem dL_law_110 : decode cL_law 110 = .ok (.iaload, 1) := by decide +kernel
theorem dL_law_111 : decode cL_law 111 = .ok (.aload_n 0, 1) := by decide +kernel
theorem dL_law_112 : decode cL_law 112 = .ok (.iload_n 3, 1) := by decide +kernel
theorem dL_law_113 : decode cL_law 113 = .ok (.iconst 3, 1) := by decide +kernel
theorem dL_law_114 : decode cL_law 114 = .ok (.iadd, 1) := by decide +kernel
theorem dL_law_115 : decode cL_law 115 = .ok (.iaload, 1) := by decide +kernel
theorem dL_law_116 : decode cL_law 116 = .ok (.ifCond .eq 7, 3) := by decide +kernel
theorem dL_law_119 : decode cL_law 119 = .ok (.iconst 1, 1) := by decide +kernel
theorem dL_law_120 : decode cL_law 120 = .ok (.goto 4, 3) := by decide +kernel
theorem dL_law_123 : decode cL_law 123 = .ok (.iconst 0, 1) := by decide +kernel
theorem dL_law_124 : decode cL_law 124 = .ok (.invokevirtual 13, 3) := by decide +kernel
theorem dL_law_127 : decode cL_law 127 = .ok (.aload_n 2, 1) := by decide +kernel
theorem dL_law_128 : decode cL_law 128 = .ok (.aload_n 0, 1) := by decide +kernel
theorem dL_law_129 : decode cL_law 129 = .ok (.iload_n 3, 1) := by decide +kernel
theorem dL_law_130 : decode cL_law 130 = .ok (.iconst 1, 1) := by decide +kernel
theorem dL_law_131 : decode cL_law 131 = .ok (.iadd, 1) := by decide +kernel
theorem dL_law_132 : decode cL_law 132 = .ok (.iaload, 1) := by decide +kernel
theorem dL_law_133 : decode cL_law 133 = .ok (.aload_n 0, 1) := by decide +kernel
theorem dL_law_134 : decode cL_law 134 = .ok (.iload_n 3, 1) := by decide +kernel
theorem dL_law_135 : decode cL_law 135 = .ok (.iconst 2, 1) := by decide +kernel
theorem dL_law_136 : decode cL_law 136 = .ok (.iadd, 1) := by decide +kernel
theorem dL_law_137 : decode cL_law 137 = .ok (.iaload, 1) := by decide +kernel
theorem dL_law_138 : decode cL_law 138 = .ok (.aload_n 0, 1) := by decide +kernel
theorem dL_law_139 : decode cL_law 139 = .ok (.iload_n 3, 1) := by decide +kernel
theorem dL_law_140 : decode cL_law 140 = .ok (.iconst 3, 1) := by decide +kernel
theorem dL_law_141 : decode cL_law 141 = .ok (.iadd, 1) := by decide +kernel
theorem dL_law_142 : decode cL_law 142 = .ok (.iaload, 1) := by decide +kernel
theorem dL_law_143 : decode cL_law 143 = .ok (.ifCond .eq 7, 3) := by decide +kernel
theorem dL_law_146 : decode cL_law 146 = .ok (.iconst 1, 1) := by decide +kernel
theorem dL_law_147 : decode cL_law 147 = .ok (.goto 4, 3) := by decide +kernel
theorem dL_law_150 : decode cL_law 150 = .ok (.iconst 0, 1) := by decide +kernel
theorem dL_law_151 : decode cL_law 151 = .ok (.invokevirtual 17, 3) := by decide +kernel
theorem dL_law_154 : decode cL_law 154 = .ok (.if_icmp .eq 281, 3) := by decide +kernel
theorem dL_law_157 : decode cL_law 157 = .ok (.iconst 0, 1) := by decide +kernel
theorem dL_law_158 : decode cL_law 158 = .ok (.ireturn, 1) := by decide +kernel
theorem dL_law_159 : decode cL_law 159 = .ok (.aload_n 1, 1) := by decide +kernel
theorem dL_law_160 : decode cL_law 160 = .ok (.aload_n 0, 1) := by decide +kernel
theorem dL_law_161 : decode cL_law 161 = .ok (.iload_n 3, 1) := by decide +kernel
theorem dL_law_162 : decode cL_law 162 = .ok (.iconst 1, 1) := by decide +kernel
theorem dL_law_163 : decode cL_law 163 = .ok (.iadd, 1) := by decide +kernel
theorem dL_law_164 : decode cL_law 164 = .ok (.iaload, 1) := by decide +kernel
theorem dL_law_165 : decode cL_law 165 = .ok (.aload_n 0, 1) := by decide +kernel
theorem dL_law_166 : decode cL_law 166 = .ok (.iload_n 3, 1) := by decide +kernel
theorem dL_law_167 : decode cL_law 167 = .ok (.iconst 2, 1) := by decide +kernel
theorem dL_law_168 : decode cL_law 168 = .ok (.iadd, 1) := by decide +kernel
theorem dL_law_169 : decode cL_law 169 = .ok (.iaload, 1) := by decide +kernel
theorem dL_law_170 : decode cL_law 170 = .ok (.invokevirtual 18, 3) := by decide +kernel
theorem dL_law_173 : decode cL_law 173 = .ok (.aload_n 2, 1) := by decide +kernel
theorem dL_law_174 : decode cL_law 174 = .ok (.aload_n 0, 1) := by decide +kernel
theorem dL_law_175 : decode cL_law 175 = .ok (.iload_n 3, 1) := by decide +kernel
theorem dL_law_176 : decode cL_law 176 = .ok (.iconst 1, 1) := by decide +kernel
theorem dL_law_177 : decode cL_law 177 = .ok (.iadd, 1) := by decide +kernel
theorem dL_law_178 : decode cL_law 178 = .ok (.iaload, 1) := by decide +kernel
theorem dL_law_179 : decode cL_law 179 = .ok (.aload_n 0, 1) := by decide +kernel
theorem dL_law_180 : decode cL_law 180 = .ok (.iload_n 3, 1) := by decide +kernel
theorem dL_law_181 : decode cL_law 181 = .ok (.iconst 2, 1) := by decide +kernel
theorem dL_law_182 : decode cL_law 182 = .ok (.iadd, 1) := by decide +kernel
theorem dL_law_183 : decode cL_law 183 = .ok (.iaload, 1) := by decide +kernel
theorem dL_law_184 : decode cL_law 184 = .ok (.invokevirtual 22, 3) := by decide +kernel
theorem dL_law_187 : decode cL_law 187 = .ok (.if_icmp .eq 248, 3) := by decide +kernel
theorem dL_law_190 : decode cL_law 190 = .ok (.iconst 0, 1) := by decide +kernel
theorem dL_law_191 : decode cL_law 191 = .ok (.ireturn, 1) := by decide +kernel
theorem dL_law_192 : decode cL_law 192 = .ok (.aload_n 1, 1) := by decide +kernel
theorem dL_law_193 : decode cL_law 193 = .ok (.aload_n 0, 1) := by decide +kernel
theorem dL_law_194 : decode cL_law 194 = .ok (.iload_n 3, 1) := by decide +kernel
theorem dL_law_195 : decode cL_law 195 = .ok (.iconst 1, 1) := by decide +kernel
theorem dL_law_196 : decode cL_law 196 = .ok (.iadd, 1) := by decide +kernel
theorem dL_law_197 : decode cL_law 197 = .ok (.iaload, 1) := by decide +kernel
theorem dL_law_198 : decode cL_law 198 = .ok (.aload_n 0, 1) := by decide +kernel
theorem dL_law_199 : decode cL_law 199 = .ok (.iload_n 3, 1) := by decide +kernel
theorem dL_law_200 : decode cL_law 200 = .ok (.iconst 2, 1) := by decide +kernel
theorem dL_law_201 : decode cL_law 201 = .ok (.iadd, 1) := by decide +kernel
theorem dL_law_202 : decode cL_law 202 = .ok (.iaload, 1) := by decide +kernel
theorem dL_law_203 : decode cL_law 203 = .ok (.invokevirtual 23, 3) := by decide +kernel
theorem dL_law_206 : decode cL_law 206 = .ok (.aload_n 2, 1) := by decide +kernel
theorem dL_law_207 : decode cL_law 207 = .ok (.aload_n 0, 1) := by decide +kernel
theorem dL_law_208 : decode cL_law 208 = .ok (.iload_n 3, 1) := by decide +kernel
theorem dL_law_209 : decode cL_law 209 = .ok (.iconst 1, 1) := by decide +kernel
theorem dL_law_210 : decode cL_law 210 = .ok (.iadd, 1) := by decide +kernel
theorem dL_law_211 : decode cL_law 211 = .ok (.iaload, 1) := by decide +kernel
theorem dL_law_212 : decode cL_law 212 = .ok (.aload_n 0, 1) := by decide +kernel
theorem dL_law_213 : decode cL_law 213 = .ok (.iload_n 3, 1) := by decide +kernel
theorem dL_law_214 : decode cL_law 214 = .ok (.iconst 2, 1) := by decide +kernel
theorem dL_law_215 : decode cL_law 215 = .ok (.iadd, 1) := by decide +kernel
theorem dL_law_216 : decode cL_law 216 = .ok (.iaload, 1) := by decide +kernel
theorem dL_law_217 : decode cL_law 217 = .ok (.invokevirtual 27, 3) := by decide +kernel
theorem dL_law_220 : decode cL_law 220 = .ok (.if_icmp .eq 215, 3) := by decide +kernel
theorem dL_law_223 : decode cL_law 223 = .ok (.iconst 0, 1) := by decide +kernel
theorem dL_law_224 : decode cL_law 224 = .ok (.ireturn, 1) := by decide +kernel
theorem dL_law_225 : decode cL_law 225 = .ok (.aload_n 1, 1) := by decide +kernel
theorem dL_law_226 : decode cL_law 226 = .ok (.invokevirtual 28, 3) := by decide +kernel
theorem dL_law_229 : decode cL_law 229 = .ok (.aload_n 2, 1) := by decide +kernel
theorem dL_law_230 : decode cL_law 230 = .ok (.invokevirtual 32, 3) := by decide +kernel
theorem dL_law_233 : decode cL_law 233 = .ok (.if_icmp .eq 202, 3) := by decide +kernel
theorem dL_law_236 : decode cL_law 236 = .ok (.iconst 0, 1) := by decide +kernel
theorem dL_law_237 : decode cL_law 237 = .ok (.ireturn, 1) := by decide +kernel
theorem dL_law_238 : decode cL_law 238 = .ok (.aload_n 1, 1) := by decide +kernel
theorem dL_law_239 : decode cL_law 239 = .ok (.aload_n 0, 1) := by decide +kernel
theorem dL_law_240 : decode cL_law 240 = .ok (.iload_n 3, 1) := by decide +kernel
theorem dL_law_241 : decode cL_law 241 = .ok (.iconst 1, 1) := by decide +kernel
theorem dL_law_242 : decode cL_law 242 = .ok (.iadd, 1) := by decide +kernel
theorem dL_law_243 : decode cL_law 243 = .ok (.iaload, 1) := by decide +kernel
theorem dL_law_244 : decode cL_law 244 = .ok (.invokevirtual 33, 3) := by decide +kernel
theorem dL_law_247 : decode cL_law 247 = .ok (.aload_n 2, 1) := by decide +kernel
theorem dL_law_248 : decode cL_law 248 = .ok (.aload_n 0, 1) := by decide +kernel
theorem dL_law_249 : decode cL_law 249 = .ok (.iload_n 3, 1) := by decide +kernel
theorem dL_law_250 : decode cL_law 250 = .ok (.iconst 1, 1) := by decide +kernel
theorem dL_law_251 : decode cL_law 251 = .ok (.iadd, 1) := by decide +kernel
theorem dL_law_252 : decode cL_law 252 = .ok (.iaload, 1) := by decide +kernel
theorem dL_law_253 : decode cL_law 253 = .ok (.invokevirtual 37, 3) := by decide +kernel
theorem dL_law_256 : decode cL_law 256 = .ok (.if_icmp .eq 179, 3) := by decide +kernel
theorem dL_law_259 : decode cL_law 259 = .ok (.iconst 0, 1) := by decide +kernel
theorem dL_law_260 : decode cL_law 260 = .ok (.ireturn, 1) := by decide +kernel
theorem dL_law_261 : decode cL_law 261 = .ok (.aload_n 1, 1) := by decide +kernel
theorem dL_law_262 : decode cL_law 262 = .ok (.aload_n 0, 1) := by decide +kernel
theorem dL_law_263 : decode cL_law 263 = .ok (.iload_n 3, 1) := by decide +kernel
theorem dL_law_264 : decode cL_law 264 = .ok (.iconst 1, 1) := by decide +kernel
theorem dL_law_265 : decode cL_law 265 = .ok (.iadd, 1) := by decide +kernel
theorem dL_law_266 : decode cL_law 266 = .ok (.iaload, 1) := by decide +kernel
theorem dL_law_267 : decode cL_law 267 = .ok (.invokevirtual 38, 3) := by decide +kernel
theorem dL_law_270 : decode cL_law 270 = .ok (.aload_n 2, 1) := by decide +kernel
theorem dL_law_271 : decode cL_law 271 = .ok (.aload_n 0, 1) := by decide +kernel
theorem dL_law_272 : decode cL_law 272 = .ok (.iload_n 3, 1) := by decide +kernel
theorem dL_law_273 : decode cL_law 273 = .ok (.iconst 1, 1) := by decide +kernel
theorem dL_law_274 : decode cL_law 274 = .ok (.iadd, 1) := by decide +kernel
theorem dL_law_275 : decode cL_law 275 = .ok (.iaload, 1) := by decide +kernel
theorem dL_law_276 : decode cL_law 276 = .ok (.invokevirtual 42, 3) := by decide +kernel
theorem dL_law_279 : decode cL_law 279 = .ok (.if_icmp .eq 156, 3) := by decide +kernel
theorem dL_law_282 : decode cL_law 282 = .ok (.iconst 0, 1) := by decide +kernel
theorem dL_law_283 : decode cL_law 283 = .ok (.ireturn, 1) := by decide +kernel
theorem dL_law_284 : decode cL_law 284 = .ok (.aload_n 1, 1) := by decide +kernel
theorem dL_law_285 : decode cL_law 285 = .ok (.aload_n 0, 1) := by decide +kernel
theorem dL_law_286 : decode cL_law 286 = .ok (.iload_n 3, 1) := by decide +kernel
theorem dL_law_287 : decode cL_law 287 = .ok (.iconst 1, 1) := by decide +kernel
theorem dL_law_288 : decode cL_law 288 = .ok (.iadd, 1) := by decide +kernel
theorem dL_law_289 : decode cL_law 289 = .ok (.iaload, 1) := by decide +kernel
theorem dL_law_290 : decode cL_law 290 = .ok (.invokevirtual 43, 3) := by decide +kernel
theorem dL_law_293 : decode cL_law 293 = .ok (.aload_n 2, 1) := by decide +kernel
theorem dL_law_294 : decode cL_law 294 = .ok (.aload_n 0, 1) := by decide +kernel
theorem dL_law_295 : decode cL_law 295 = .ok (.iload_n 3, 1) := by decide +kernel
theorem dL_law_296 : decode cL_law 296 = .ok (.iconst 1, 1) := by decide +kernel
theorem dL_law_297 : decode cL_law 297 = .ok (.iadd, 1) := by decide +kernel
theorem dL_law_298 : decode cL_law 298 = .ok (.iaload, 1) := by decide +kernel
theorem dL_law_299 : decode cL_law 299 = .ok (.invokevirtual 46, 3) := by decide +kernel
theorem dL_law_302 : decode cL_law 302 = .ok (.if_icmp .eq 133, 3) := by decide +kernel
theorem dL_law_305 : decode cL_law 305 = .ok (.iconst 0, 1) := by decide +kernel
theorem dL_law_306 : decode cL_law 306 = .ok (.ireturn, 1) := by decide +kernel
theorem dL_law_307 : decode cL_law 307 = .ok (.aload_n 1, 1) := by decide +kernel
theorem dL_law_308 : decode cL_law 308 = .ok (.invokevirtual 47, 3) := by decide +kernel
theorem dL_law_311 : decode cL_law 311 = .ok (.aload_n 2, 1) := by decide +kernel
theorem dL_law_312 : decode cL_law 312 = .ok (.invokevirtual 50, 3) := by decide +kernel
theorem dL_law_315 : decode cL_law 315 = .ok (.if_icmp .eq 120, 3) := by decide +kernel
theorem dL_law_318 : decode cL_law 318 = .ok (.iconst 0, 1) := by decide +kernel
theorem dL_law_319 : decode cL_law 319 = .ok (.ireturn, 1) := by decide +kernel
theorem dL_law_320 : decode cL_law 320 = .ok (.aload_n 1, 1) := by decide +kernel
theorem dL_law_321 : decode cL_law 321 = .ok (.invokevirtual 51, 3) := by decide +kernel
theorem dL_law_324 : decode cL_law 324 = .ok (.aload_n 2, 1) := by decide +kernel
theorem dL_law_325 : decode cL_law 325 = .ok (.invokevirtual 54, 3) := by decide +kernel
theorem dL_law_328 : decode cL_law 328 = .ok (.if_icmp .eq 107, 3) := by decide +kernel
theorem dL_law_331 : decode cL_law 331 = .ok (.iconst 0, 1) := by decide +kernel
theorem dL_law_332 : decode cL_law 332 = .ok (.ireturn, 1) := by decide +kernel
theorem dL_law_333 : decode cL_law 333 = .ok (.aload_n 1, 1) := by decide +kernel
theorem dL_law_334 : decode cL_law 334 = .ok (.aload_n 0, 1) := by decide +kernel
theorem dL_law_335 : decode cL_law 335 = .ok (.iload_n 3, 1) := by decide +kernel
theorem dL_law_336 : decode cL_law 336 = .ok (.iconst 1, 1) := by decide +kernel
theorem dL_law_337 : decode cL_law 337 = .ok (.iadd, 1) := by decide +kernel
theorem dL_law_338 : decode cL_law 338 = .ok (.iaload, 1) := by decide +kernel
theorem dL_law_339 : decode cL_law 339 = .ok (.invokevirtual 55, 3) := by decide +kernel
theorem dL_law_342 : decode cL_law 342 = .ok (.aload_n 2, 1) := by decide +kernel
theorem dL_law_343 : decode cL_law 343 = .ok (.aload_n 0, 1) := by decide +kernel
theorem dL_law_344 : decode cL_law 344 = .ok (.iload_n 3, 1) := by decide +kernel
theorem dL_law_345 : decode cL_law 345 = .ok (.iconst 1, 1) := by decide +kernel
theorem dL_law_346 : decode cL_law 346 = .ok (.iadd, 1) := by decide +kernel
theorem dL_law_347 : decode cL_law 347 = .ok (.iaload, 1) := by decide +kernel
theorem dL_law_348 : decode cL_law 348 = .ok (.invokevirtual 58, 3) := by decide +kernel
theorem dL_law_351 : decode cL_law 351 = .ok (.if_icmp .eq 84, 3) := by decide +kernel
theorem dL_law_354 : decode cL_law 354 = .ok (.iconst 0, 1) := by decide +kernel
theorem dL_law_355 : decode cL_law 355 = .ok (.ireturn, 1) := by decide +kernel
theorem dL_law_356 : decode cL_law 356 = .ok (.aload_n 1, 1) := by decide +kernel
theorem dL_law_357 : decode cL_law 357 = .ok (.aload_n 0, 1) := by decide +kernel
theorem dL_law_358 : decode cL_law 358 = .ok (.iload_n 3, 1) := by decide +kernel
theorem dL_law_359 : decode cL_law 359 = .ok (.iconst 1, 1) := by decide +kernel
theorem dL_law_360 : decode cL_law 360 = .ok (.iadd, 1) := by decide +kernel
theorem dL_law_361 : decode cL_law 361 = .ok (.iaload, 1) := by decide +kernel
theorem dL_law_362 : decode cL_law 362 = .ok (.aload_n 0, 1) := by decide +kernel
theorem dL_law_363 : decode cL_law 363 = .ok (.iload_n 3, 1) := by decide +kernel
theorem dL_law_364 : decode cL_law 364 = .ok (.iconst 2, 1) := by decide +kernel
theorem dL_law_365 : decode cL_law 365 = .ok (.iadd, 1) := by decide +kernel
theorem dL_law_366 : decode cL_law 366 = .ok (.iaload, 1) := by decide +kernel
theorem dL_law_367 : decode cL_law 367 = .ok (.invokevirtual 59, 3) := by decide +kernel
theorem dL_law_370 : decode cL_law 370 = .ok (.aload_n 2, 1) := by decide +kernel
theorem dL_law_371 : decode cL_law 371 = .ok (.aload_n 0, 1) := by decide +kernel
theorem dL_law_372 : decode cL_law 372 = .ok (.iload_n 3, 1) := by decide +kernel
theorem dL_law_373 : decode cL_law 373 = .ok (.iconst 1, 1) := by decide +kernel
theorem dL_law_374 : decode cL_law 374 = .ok (.iadd, 1) := by decide +kernel
theorem dL_law_375 : decode cL_law 375 = .ok (.iaload, 1) := by decide +kernel
theorem dL_law_376 : decode cL_law 376 = .ok (.aload_n 0, 1) := by decide +kernel
theorem dL_law_377 : decode cL_law 377 = .ok (.iload_n 3, 1) := by decide +kernel
theorem dL_law_378 : decode cL_law 378 = .ok (.iconst 2, 1) := by decide +kernel
theorem dL_law_379 : decode cL_law 379 = .ok (.iadd, 1) := by decide +kernel
theorem dL_law_380 : decode cL_law 380 = .ok (.iaload, 1) := by decide +kernel
theorem dL_law_381 : decode cL_law 381 = .ok (.invokevirtual 62, 3) := by decide +kernel
theorem dL_law_384 : decode cL_law 384 = .ok (.if_icmp .eq 51, 3) := by decide +kernel
theorem dL_law_387 : decode cL_law 387 = .ok (.iconst 0, 1) := by decide +kernel
theorem dL_law_388 : decode cL_law 388 = .ok (.ireturn, 1) := by decide +kernel
theorem dL_law_389 : decode cL_law 389 = .ok (.aload_n 1, 1) := by decide +kernel
theorem dL_law_390 : decode cL_law 390 = .ok (.aload_n 0, 1) := by decide +kernel
theorem dL_law_391 : decode cL_law 391 = .ok (.iload_n 3, 1) := by decide +kernel
theorem dL_law_392 : decode cL_law 392 = .ok (.iconst 1, 1) := by decide +kernel
theorem dL_law_393 : decode cL_law 393 = .ok (.iadd, 1) := by decide +kernel
theorem dL_law_394 : decode cL_law 394 = .ok (.iaload, 1) := by decide +kernel
theorem dL_law_395 : decode cL_law 395 = .ok (.invokevirtual 63, 3) := by decide +kernel
theorem dL_law_398 : decode cL_law 398 = .ok (.aload_n 2, 1) := by decide +kernel
theorem dL_law_399 : decode cL_law 399 = .ok (.aload_n 0, 1) := by decide +kernel
theorem dL_law_400 : decode cL_law 400 = .ok (.iload_n 3, 1) := by decide +kernel
theorem dL_law_401 : decode cL_law 401 = .ok (.iconst 1, 1) := by decide +kernel
theorem dL_law_402 : decode cL_law 402 = .ok (.iadd, 1) := by decide +kernel
theorem dL_law_403 : decode cL_law 403 = .ok (.iaload, 1) := by decide +kernel
theorem dL_law_404 : decode cL_law 404 = .ok (.invokevirtual 66, 3) := by decide +kernel
theorem dL_law_407 : decode cL_law 407 = .ok (.if_icmp .eq 28, 3) := by decide +kernel
theorem dL_law_410 : decode cL_law 410 = .ok (.iconst 0, 1) := by decide +kernel
theorem dL_law_411 : decode cL_law 411 = .ok (.ireturn, 1) := by decide +kernel
theorem dL_law_412 : decode cL_law 412 = .ok (.aload_n 1, 1) := by decide +kernel
theorem dL_law_413 : decode cL_law 413 = .ok (.aload_n 0, 1) := by decide +kernel
theorem dL_law_414 : decode cL_law 414 = .ok (.iload_n 3, 1) := by decide +kernel
theorem dL_law_415 : decode cL_law 415 = .ok (.iconst 1, 1) := by decide +kernel
theorem dL_law_416 : decode cL_law 416 = .ok (.iadd, 1) := by decide +kernel
theorem dL_law_417 : decode cL_law 417 = .ok (.iaload, 1) := by decide +kernel
theorem dL_law_418 : decode cL_law 418 = .ok (.invokevirtual 67, 3) := by decide +kernel
theorem dL_law_421 : decode cL_law 421 = .ok (.aload_n 2, 1) := by decide +kernel
theorem dL_law_422 : decode cL_law 422 = .ok (.aload_n 0, 1) := by decide +kernel
theorem dL_law_423 : decode cL_law 423 = .ok (.iload_n 3, 1) := by decide +kernel
theorem dL_law_424 : decode cL_law 424 = .ok (.iconst 1, 1) := by decide +kernel
theorem dL_law_425 : decode cL_law 425 = .ok (.iadd, 1) := by decide +kernel
theorem dL_law_426 : decode cL_law 426 = .ok (.iaload, 1) := by decide +kernel
theorem dL_law_427 : decode cL_law 427 = .ok (.invokevirtual 70, 3) := by decide +kernel
theorem dL_law_430 : decode cL_law 430 = .ok (.if_icmp .eq 5, 3) := by decide +kernel
theorem dL_law_433 : decode cL_law 433 = .ok (.iconst 0, 1) := by decide +kernel
theorem dL_law_434 : decode cL_law 434 = .ok (.ireturn, 1) := by decide +kernel
theorem dL_law_435 : decode cL_law 435 = .ok (.iinc 3 4, 3) := by decide +kernel
theorem dL_law_438 : decode cL_law 438 = .ok (.goto (-420), 3) := by decide +kernel
theorem dL_law_441 : decode cL_law 441 = .ok (.iconst 1, 1) := by decide +kernel
theorem dL_law_442 : decode cL_law 442 = .ok (.ireturn, 1) := by decide +kernel
end
section
set_option maxRecDepth 100000
/-! own rows over the kit: one world, one context -/
abbrev vwCl : List vw_C := [(RX0, TX0, 10), (RX1, TX1, 7)]
def sp_C (p : Program) (s : State) (m : MethodId) (c : Code) (args : Array Value) (cc : ByteArray) (nL : Nat) (own : String) (D : va_G) (tys : List (ClassId × FieldType)) : Prop :=
  p.tables.exec = Jvm.exec ∧ c.code = cc ∧ c.maxLocals = nL ∧ s.vm.findClass own = some m.cls ∧ (∀ w ∈ lw_all, w.before args s = true) ∧ va_K D vwCl tys s
/-- the world now: its cells, apart, nothing else changed since H0 -/
def sp_Wd (D : va_G) (w : va_W) (A : Nat → Prop) (H0 H : Heap) (locs : List Loc) : Prop := va_P D vwCl w H ∧ va_D A w ∧ va_S A H0 H locs ∧ ∀ q, H0.size ≤ q → A q
/-- a contract with an int (or boolean) answer; the method makes no cells -/
def sp_MI (l : Launch) (D : va_G) (tys : List (ClassId × FieldType)) (y : MethodName) (cy : ByteArray) (nL : Nat) (rt : FieldType) (rm : Room) (As : List Value) (w : va_W) {S : Type} (post : Int32 → S → Prop) (w' : S → va_W) : Prop :=
  ∀ sz, Met l y (ws_ y cy nL (some rt)) rm (va_Pc As (fun U => U.heap.size = sz ∧ va_P D vwCl w U.heap ∧ va_K D vwCl tys U ∧ va_D (fun _ => True) w)) (va_Qi post (fun u t => va_P D vwCl (w' u) t.heap ∧ va_K D vwCl tys t ∧ va_D (va_A w sz) (w' u)) (va_A w sz)) 0 0 (va_A w sz)
/-- a contract without an answer -/
def sp_MV (l : Launch) (D : va_G) (tys : List (ClassId × FieldType)) (y : MethodName) (cy : ByteArray) (nL : Nat) (rm : Room) (As : List Value) (w : va_W) {S : Type} (post : S → Prop) (w' : S → va_W) : Prop :=
  ∀ sz, Met l y (ws_ y cy nL none) rm (va_Pc As (fun U => U.heap.size = sz ∧ va_P D vwCl w U.heap ∧ va_K D vwCl tys U ∧ va_D (fun _ => True) w)) (va_Qv post (fun u t => va_P D vwCl (w' u) t.heap ∧ va_K D vwCl tys t ∧ va_D (va_A w sz) (w' u)) (va_A w sz)) 0 0 (va_A w sz)
theorem sp_cellc {cA : ClassId} {n : Nat} {f g : Nat → Int32} (h : ∀ j, j < n → f j = g j) : vp_cell cA (n, .inl f) = vp_cell cA (n, .inl g) := by
  rw [vp_cell_i, vp_cell_i]
  unfold arrV
  congr 2
  funext j
  exact congrArg Value.int (h j.val j.isLt)
/-- an array's contents under another name -/
theorem sp_Wd.arr {D : va_G} {w : va_W} {A : Nat → Prop} {H0 H : Heap} {locs : List Loc} (hW : sp_Wd D w A H0 H locs) (q0 : Nat) {a : Nat} {cA : ClassId} {n : Nat} {f : Nat → Int32} (ha : w[q0]? = some (a, .inl (cA, n, .inl f))) (g : Nat → Int32) (h : ∀ j, j < n → f j = g j) : sp_Wd D (w.set q0 (a, .inl (cA, n, .inl g))) A H0 H locs :=
  ⟨hW.1.set hW.2.1 ha (show H[a]? = some (vp_cell cA (n, .inl g)) from by rw [← sp_cellc h]; exact hW.1 q0 _ ha) (fun _ _ => rfl), hW.2.1.set ha, hW.2.2⟩
theorem sp_Wd.free {D : va_G} {w : va_W} {A : Nat → Prop} {H0 H : Heap} {locs : List Loc} (hW : sp_Wd D w A H0 H locs) : ∀ q, va_A w H.size q → A q := by
  intro q h
  rcases h with ⟨k, e, h⟩ | h
  · exact hW.2.1.2 k _ h
  · exact hW.2.2.2 q (Nat.le_trans hW.2.2.1.1 h)
theorem sp_entI {l : Launch} {D : va_G} {tys : List (ClassId × FieldType)} {y : MethodName} {cy : ByteArray} {nL : Nat} {rt : FieldType} {rm : Room} {As : List Value} {w : va_W} {S : Type} {post : Int32 → S → Prop} {w' : S → va_W} {own : String}
    (hpl : plainName y.cls = true) (hown : y.cls = own) (hlen : (lg_sl As).length ≤ nL)
    (body : ∀ (p : Program) (e : Env) (s : State) (m : MethodId) (args : Array Value) (below : List Frame) (meth : Method) (c : Code) (A : Nat → Prop) (Q : State → Prop) (ls : Array Slot),
      sp_C p s m c args cy nL own D tys → sp_Wd D w A s.heap s.heap [] →
      (∀ (pc : Nat) (H : Heap) (locs : List Loc) (ls : Array Slot) (r : Int32) (u : S), decode cy pc = .ok (.ireturn, 1) → narrow rt (.int r) = .int r → post r u → sp_Wd D (w' u) A s.heap H locs → W p l e rm s m args below meth c H locs 0 0 Q (F0 m pc ls [.int r])) →
      lv_has ls nL (lv_args 0 As) → W p l e rm s m args below meth c s.heap [] 0 0 Q (F0 m 0 ls [])) : sp_MI l D tys y cy nL rt rm As w post w' := by
  intro sz
  refine Met.ofW (cc := cy) (maxL := nL) (ret := some rt) hpl rfl ?_
  intro p e s m args below meth c s₁ B hml hv
  obtain ⟨rfl, hsz, hP, hK, hD0⟩ := hv
  have hts := atoms_spec (ws := ws_ y cy nL (some rt)) B.pre
  have hts : ∀ w ∈ lw_all, w.before _ s = true := fun w h => hts w (List.mem_cons_of_mem _ h)
  subst hsz
  have hl := lv_entry As (n := nL) hlen
  rw [lg_entry_eq]
  refine body p e s m _ below meth c (va_A w s.heap.size) _ _ ⟨B.exec, B.bytes, hml, (by rw [← hown]; exact findClass_of_methodNamed B.named), hts, hK⟩ ⟨hP, hD0.self, va_S.rf, fun q h => Or.inr h⟩ ?_ hl
  intro pc H locs ls r u hd hn hp hW
  exact W.zret B.exec B.bytes B.returns hn (fun t ht hWm => ⟨⟨r, u, rfl, hp, by rw [ht]; exact hW.1, va_K.moved hWm.alike hK, hW.2.1⟩, hW.2.2.1.F ht⟩) hW.2.2.1.2.2 hd B.notSynchronized
theorem sp_entV {l : Launch} {D : va_G} {tys : List (ClassId × FieldType)} {y : MethodName} {cy : ByteArray} {nL : Nat} {rm : Room} {As : List Value} {w : va_W} {S : Type} {post : S → Prop} {w' : S → va_W} {own : String}
    (hpl : plainName y.cls = true) (hown : y.cls = own) (hlen : (lg_sl As).length ≤ nL)
    (body : ∀ (p : Program) (e : Env) (s : State) (m : MethodId) (args : Array Value) (below : List Frame) (meth : Method) (c : Code) (A : Nat → Prop) (Q : State → Prop) (ls : Array Slot),
      sp_C p s m c args cy nL own D tys → sp_Wd D w A s.heap s.heap [] →
      (∀ (pc : Nat) (H : Heap) (locs : List Loc) (ls : Array Slot) (u : S), decode cy pc = .ok (.return_, 1) → post u → sp_Wd D (w' u) A s.heap H locs → W p l e rm s m args below meth c H locs 0 0 Q (F0 m pc ls [])) →
      lv_has ls nL (lv_args 0 As) → W p l e rm s m args below meth c s.heap [] 0 0 Q (F0 m 0 ls [])) : sp_MV l D tys y cy nL rm As w post w' := by
  intro sz
  refine Met.ofW (cc := cy) (maxL := nL) (ret := none) hpl rfl ?_
  intro p e s m args below meth c s₁ B hml hv
  obtain ⟨rfl, hsz, hP, hK, hD0⟩ := hv
  have hts := atoms_spec (ws := ws_ y cy nL none) B.pre
  have hts : ∀ w ∈ lw_all, w.before _ s = true := fun w h => hts w (List.mem_cons_of_mem _ h)
  subst hsz
  have hl := lv_entry As (n := nL) hlen
  rw [lg_entry_eq]
  refine body p e s m _ below meth c (va_A w s.heap.size) _ _ ⟨B.exec, B.bytes, hml, (by rw [← hown]; exact findClass_of_methodNamed B.named), hts, hK⟩ ⟨hP, hD0.self, va_S.rf, fun q h => Or.inr h⟩ ?_ hl
  intro pc H locs ls u hd hp hW
  exact W.vret B.exec B.bytes B.returns (fun t ht hWm => ⟨⟨u, rfl, hp, by rw [ht]; exact hW.1, va_K.moved hWm.alike hK, hW.2.1⟩, hW.2.2.1.F ht⟩) hW.2.2.1.2.2 hd B.notSynchronized
section SPA
variable {p : Program} {l : Launch} {e : Env} {R : Room} {s : State} {m : MethodId} {args : Array Value} {below : List Frame} {meth : Method} {c : Code} {H : Heap} {locs : List Loc} {cells slots : Nat} {Q : State → Prop}
variable {cc : ByteArray} {pc nL : Nat} {own : String} {ls : Array Slot} {rest : List Value} {D : va_G} {A : Nat → Prop} {a : Nat} {tys : List (ClassId × FieldType)} {w : va_W} {H0 : Heap}
theorem sp_top {x y : Int32} (h : x = y) (k : W p l e R s m args below meth c H locs cells slots Q (F0 m pc ls (.int y :: rest))) : W p l e R s m args below meth c H locs cells slots Q (F0 m pc ls (.int x :: rest)) := by
  rw [h]; exact k
theorem sp_iald (hC : sp_C p s m c args cc nL own D tys) (hW : sp_Wd D w A H0 H locs) (q0 t0 : Nat) {cA : ClassId} {n : Nat} {f : Nat → Int32} (ha : w[q0]? = some (a, .inl (cA, n, .inl f))) (ht : tys[t0]? = some (cA, .int)) {k : Nat} {v : Int32} (hk : k < n) (hn : n < 2 ^ 31) (hv : f k = v) (hdg : decode cc pc = .ok (.iaload, 1))
    (kk : W p l e R s m args below meth c H locs cells slots Q (F0 m (pc + 1) ls (.int v :: rest))) : W p l e R s m args below meth c H locs cells slots Q (F0 m pc ls (.int (nI k) :: .ref a :: rest)) := by
  refine va_iald hC.1 hC.2.1 hC.2.2.2.2.2 hW.1 q0 t0 ha ht (vp_in_nI hk hn) hdg ?_
  rw [nI_clamp (Nat.lt_trans hk hn), hv]; exact kk
theorem sp_bald (hC : sp_C p s m c args cc nL own D tys) (hW : sp_Wd D w A H0 H locs) (q0 t0 : Nat) {cA : ClassId} {n : Nat} {f : Nat → Int32} (ha : w[q0]? = some (a, .inl (cA, n, .inl f))) (ht : tys[t0]? = some (cA, .byte)) {k : Nat} {v : Int32} (hk : k < n) (hn : n < 2 ^ 31) (hv : f k = v) (hdg : decode cc pc = .ok (.baload, 1))
    (kk : W p l e R s m args below meth c H locs cells slots Q (F0 m (pc + 1) ls (.int v :: rest))) : W p l e R s m args below meth c H locs cells slots Q (F0 m pc ls (.int (nI k) :: .ref a :: rest)) := by
  refine va_bald hC.1 hC.2.1 hC.2.2.2.2.2 hW.1 q0 t0 ha ht (vp_in_nI hk hn) hdg ?_
  rw [nI_clamp (Nat.lt_trans hk hn), hv]; exact kk
theorem sp_zald (hC : sp_C p s m c args cc nL own D tys) (hW : sp_Wd D w A H0 H locs) (q0 t0 : Nat) {cA : ClassId} {n : Nat} {f : Nat → Int32} (ha : w[q0]? = some (a, .inl (cA, n, .inl f))) (ht : tys[t0]? = some (cA, .boolean)) {k : Nat} {v : Int32} (hk : k < n) (hn : n < 2 ^ 31) (hv : f k = v) (hdg : decode cc pc = .ok (.baload, 1))
    (kk : W p l e R s m args below meth c H locs cells slots Q (F0 m (pc + 1) ls (.int v :: rest))) : W p l e R s m args below meth c H locs cells slots Q (F0 m pc ls (.int (nI k) :: .ref a :: rest)) := by
  refine va_zald hC.1 hC.2.1 hC.2.2.2.2.2 hW.1 q0 t0 ha ht (vp_in_nI hk hn) hdg ?_
  rw [nI_clamp (Nat.lt_trans hk hn), hv]; exact kk
theorem sp_iast (hC : sp_C p s m c args cc nL own D tys) (hW : sp_Wd D w A H0 H locs) (q0 t0 : Nat) {cA : ClassId} {n : Nat} {f : Nat → Int32} (ha : w[q0]? = some (a, .inl (cA, n, .inl f))) (ht : tys[t0]? = some (cA, .int)) {k : Nat} {x : Int32} (hk : k < n) (hn : n < 2 ^ 31) (g : Nat → Int32) (hg : ∀ j, j < n → (if j = k then x else f j) = g j) (hdg : decode cc pc = .ok (.iastore, 1))
    (kk : ∀ (H1 : Heap) (locs1 : List Loc), sp_Wd D (w.set q0 (a, .inl (cA, n, .inl g))) A H0 H1 locs1 → W p l e R s m args below meth c H1 locs1 cells slots Q (F0 m (pc + 1) ls rest)) : W p l e R s m args below meth c H locs cells slots Q (F0 m pc ls (.int x :: .int (nI k) :: .ref a :: rest)) := by
  refine va_iast hC.1 hC.2.1 hC.2.2.2.2.2 hW.1 hW.2.1 hW.2.2.1 q0 t0 ha ht (vp_in_nI hk hn) hdg (fun H1 locs1 hP hD hS => ?_)
  rw [nI_clamp (Nat.lt_trans hk hn)] at hP hD
  have hl := (List.getElem?_eq_some_iff.mp ha).1
  have h2 : sp_Wd D (w.set q0 (a, .inl (cA, n, .inl (upd f k x)))) A H0 H1 locs1 := ⟨hP, hD, hS, hW.2.2.2⟩
  have h3 := h2.arr q0 (a := a) (cA := cA) (n := n) (f := upd f k x) (by rw [List.getElem?_set_self hl]) g (fun j hj => hg j hj)
  rw [List.set_set] at h3
  exact kk H1 locs1 h3
theorem sp_bast (hC : sp_C p s m c args cc nL own D tys) (hW : sp_Wd D w A H0 H locs) (q0 t0 : Nat) {cA : ClassId} {n : Nat} {f : Nat → Int32} (ha : w[q0]? = some (a, .inl (cA, n, .inl f))) (ht : tys[t0]? = some (cA, .byte)) {k : Nat} {x : Int32} (hk : k < n) (hn : n < 2 ^ 31) (hx : vp_nar .byte x = x) (g : Nat → Int32) (hg : ∀ j, j < n → (if j = k then x else f j) = g j) (hdg : decode cc pc = .ok (.bastore, 1))
    (kk : ∀ (H1 : Heap) (locs1 : List Loc), sp_Wd D (w.set q0 (a, .inl (cA, n, .inl g))) A H0 H1 locs1 → W p l e R s m args below meth c H1 locs1 cells slots Q (F0 m (pc + 1) ls rest)) : W p l e R s m args below meth c H locs cells slots Q (F0 m pc ls (.int x :: .int (nI k) :: .ref a :: rest)) := by
  refine va_bast hC.1 hC.2.1 hC.2.2.2.2.2 hW.1 hW.2.1 hW.2.2.1 q0 t0 ha ht (vp_in_nI hk hn) hdg (fun H1 locs1 hP hD hS => ?_)
  rw [nI_clamp (Nat.lt_trans hk hn), hx] at hP hD
  have hl := (List.getElem?_eq_some_iff.mp ha).1
  have h2 : sp_Wd D (w.set q0 (a, .inl (cA, n, .inl (upd f k x)))) A H0 H1 locs1 := ⟨hP, hD, hS, hW.2.2.2⟩
  have h3 := h2.arr q0 (a := a) (cA := cA) (n := n) (f := upd f k x) (by rw [List.getElem?_set_self hl]) g (fun j hj => hg j hj)
  rw [List.set_set] at h3
  exact kk H1 locs1 h3
theorem sp_zast (hC : sp_C p s m c args cc nL own D tys) (hW : sp_Wd D w A H0 H locs) (q0 t0 : Nat) {cA : ClassId} {n : Nat} {f : Nat → Int32} (ha : w[q0]? = some (a, .inl (cA, n, .inl f))) (ht : tys[t0]? = some (cA, .boolean)) {k : Nat} {x : Int32} (hk : k < n) (hn : n < 2 ^ 31) (hx : vp_nar .boolean x = x) (g : Nat → Int32) (hg : ∀ j, j < n → (if j = k then x else f j) = g j) (hdg : decode cc pc = .ok (.bastore, 1))
    (kk : ∀ (H1 : Heap) (locs1 : List Loc), sp_Wd D (w.set q0 (a, .inl (cA, n, .inl g))) A H0 H1 locs1 → W p l e R s m args below meth c H1 locs1 cells slots Q (F0 m (pc + 1) ls rest)) : W p l e R s m args below meth c H locs cells slots Q (F0 m pc ls (.int x :: .int (nI k) :: .ref a :: rest)) := by
  refine va_zast hC.1 hC.2.1 hC.2.2.2.2.2 hW.1 hW.2.1 hW.2.2.1 q0 t0 ha ht (vp_in_nI hk hn) hdg (fun H1 locs1 hP hD hS => ?_)
  rw [nI_clamp (Nat.lt_trans hk hn), hx] at hP hD
  have hl := (List.getElem?_eq_some_iff.mp ha).1
  have h2 : sp_Wd D (w.set q0 (a, .inl (cA, n, .inl (upd f k x)))) A H0 H1 locs1 := ⟨hP, hD, hS, hW.2.2.2⟩
  have h3 := h2.arr q0 (a := a) (cA := cA) (n := n) (f := upd f k x) (by rw [List.getElem?_set_self hl]) g (fun j hj => hg j hj)
  rw [List.set_set] at h3
  exact kk H1 locs1 h3
theorem sp_get0 (hC : sp_C p s m c args cc nL RX0 D tys) {fs : List Value} (hW : sp_Wd D ((a, .inr (0, fs)) :: w) A H0 H locs) (k : Nat) (hk : k < 10) {index : Nat} (hl : Cond.fieldLink RX0 index RX0 (TX0 k).2.1 (TX0 k).2.2.1 ∈ lw_all) (he : (TX0 k).1 = RX0) {v : Value} (hv : fs[k]? = some v) (hdg : decode cc pc = .ok (.getfield index, 3))
    (kk : W p l e R s m args below meth c H locs cells slots Q (F0 m (pc + 3) ls (v :: rest))) : W p l e R s m args below meth c H locs cells slots Q (F0 m pc ls (.ref a :: rest)) :=
  va_get (D := D) (ci := 0) (C := RX0) (T := TX0) (N := 10) (ref := RX0) hC.1 hC.2.1 hC.2.2.2.2.1 in_X0 hC.2.2.2.1 hC.2.2.2.2.2 hW.1 0 rfl rfl k hk (hC.2.2.2.2.1 _ hl) (fun _ h9 => by rw [he] at h9; exact h9) hv hdg kk
theorem sp_get1 (hC : sp_C p s m c args cc nL RX1 D tys) {fs : List Value} (hW : sp_Wd D ((a, .inr (1, fs)) :: w) A H0 H locs) (k : Nat) (hk : k < 7) {index : Nat} (hl : Cond.fieldLink RX1 index RX1 (TX1 k).2.1 (TX1 k).2.2.1 ∈ lw_all) (he : (TX1 k).1 = RX1) {v : Value} (hv : fs[k]? = some v) (hdg : decode cc pc = .ok (.getfield index, 3))
    (kk : W p l e R s m args below meth c H locs cells slots Q (F0 m (pc + 3) ls (v :: rest))) : W p l e R s m args below meth c H locs cells slots Q (F0 m pc ls (.ref a :: rest)) :=
  va_get (D := D) (ci := 1) (C := RX1) (T := TX1) (N := 7) (ref := RX1) hC.1 hC.2.1 hC.2.2.2.2.1 in_X1 hC.2.2.2.1 hC.2.2.2.2.2 hW.1 0 rfl rfl k hk (hC.2.2.2.2.1 _ hl) (fun _ h9 => by rw [he] at h9; exact h9) hv hdg kk
theorem sp_put0 (hC : sp_C p s m c args cc nL RX0 D tys) {fs : List Value} (hW : sp_Wd D ((a, .inr (0, fs)) :: w) A H0 H locs) (k : Nat) (hk : k < 10) {index : Nat} (hl : Cond.fieldLink RX0 index RX0 (TX0 k).2.1 (TX0 k).2.2.1 ∈ lw_all) (he : (TX0 k).1 = RX0) (hfin : (TX0 k).2.2.2 = false) {ty : FieldType} {v : Value} (hd : parseFieldDescriptor (TX0 k).2.2.1 = some ty) (hn : narrow ty v = v) (hfit : fits ty v = true) (hlen : k < fs.length) (hdg : decode cc pc = .ok (.putfield index, 3))
    (kk : ∀ (H1 : Heap) (locs1 : List Loc), sp_Wd D ((a, .inr (0, fs.set k v)) :: w) A H0 H1 locs1 → W p l e R s m args below meth c H1 locs1 cells slots Q (F0 m (pc + 3) ls rest)) : W p l e R s m args below meth c H locs cells slots Q (F0 m pc ls (v :: .ref a :: rest)) :=
  va_put (D := D) (ci := 0) (C := RX0) (T := TX0) (N := 10) (ref := RX0) hC.1 hC.2.1 hC.2.2.2.2.1 in_X0 tyX0 tyX0_ok nmX0 hC.2.2.2.1 hC.2.2.2.2.2 hW.1 hW.2.1 hW.2.2.1 0 rfl rfl k hk (hC.2.2.2.2.1 _ hl) (fun _ h9 => by rw [he] at h9; exact h9) hfin hd hn hfit hlen hdg (fun H1 locs1 hP hD hS => kk H1 locs1 ⟨hP, hD, hS, hW.2.2.2⟩)
theorem sp_put1 (hC : sp_C p s m c args cc nL RX1 D tys) {fs : List Value} (hW : sp_Wd D ((a, .inr (1, fs)) :: w) A H0 H locs) (k : Nat) (hk : k < 7) {index : Nat} (hl : Cond.fieldLink RX1 index RX1 (TX1 k).2.1 (TX1 k).2.2.1 ∈ lw_all) (he : (TX1 k).1 = RX1) (hfin : (TX1 k).2.2.2 = false) {ty : FieldType} {v : Value} (hd : parseFieldDescriptor (TX1 k).2.2.1 = some ty) (hn : narrow ty v = v) (hfit : fits ty v = true) (hlen : k < fs.length) (hdg : decode cc pc = .ok (.putfield index, 3))
    (kk : ∀ (H1 : Heap) (locs1 : List Loc), sp_Wd D ((a, .inr (1, fs.set k v)) :: w) A H0 H1 locs1 → W p l e R s m args below meth c H1 locs1 cells slots Q (F0 m (pc + 3) ls rest)) : W p l e R s m args below meth c H locs cells slots Q (F0 m pc ls (v :: .ref a :: rest)) :=
  va_put (D := D) (ci := 1) (C := RX1) (T := TX1) (N := 7) (ref := RX1) hC.1 hC.2.1 hC.2.2.2.2.1 in_X1 tyX1 tyX1_ok nmX1 hC.2.2.2.1 hC.2.2.2.2.2 hW.1 hW.2.1 hW.2.2.1 0 rfl rfl k hk (hC.2.2.2.2.1 _ hl) (fun _ h9 => by rw [he] at h9; exact h9) hfin hd hn hfit hlen hdg (fun H1 locs1 hP hD hS => kk H1 locs1 ⟨hP, hD, hS, hW.2.2.2⟩)
variable {y : MethodName} {cy : ByteArray} {nLy n index : Nat} {rt : FieldType} {rm : Room} {As : List Value} {S : Type} {w' : S → va_W} {C : String} {ci : Nat} {fs : List Value} {lv : List (Nat × Value)} {st0 : List Value} {T : u_T} {N : Nat}
/-- a call with an int answer: the callee's world is the whole world -/
theorem sp_callI {post : Int32 → S → Prop} (hC : sp_C p s m c args cc nL own D tys) (hW : sp_Wd D ((a, .inr (ci, fs)) :: w) A s.heap H locs) (hM : sp_MI l D tys y cy nLy rt rm (.ref a :: As) ((a, .inr (ci, fs)) :: w) post w')
    (q1 : Cond.methodLink own index y ∈ lw_all) (q2 : Cond.instanceMethod y ∈ lw_all) (q3 : Cond.selects C y y ∈ lw_all) (q4 : Cond.initialized C ∈ lw_all) (q5 : Cond.code y cy nLy (some rt) ∈ lw_all)
    (hci : vwCl[ci]? = some (C, T, N)) (hrc : rm.cells = 0) (hrs : rm.slots = 0)
    (hd : y.cls = C ∧ y.cls ≠ "java/lang/invoke/MethodHandle" ∧ y.cls ≠ "java/lang/invoke/VarHandle" ∧ (parseMethodDescriptor y.desc).map (fun d => d.parameters.length) = some n) (hR : rm.frames + 1 ≤ R.frames ∧ 8 + (nLy + 11) + rm.locals ≤ R.locals)
    (hn : As.length = n) (hl : lv_has ls nL lv) (hst : st0 = As.reverse ++ .ref a :: rest) (hroom : (rest.map fun v => v.category).sum ≤ 8) (hf : cells + 0 ≤ R.cells ∧ slots + 0 ≤ R.slots) (hdg : decode cc pc = .ok (.invokevirtual index, 3))
    (kk : ∀ (r : Int32) (u : S) (H1 : Heap) (locs1 : List Loc), post r u → sp_Wd D (w' u) A s.heap H1 locs1 → W p l e R s m args below meth c H1 locs1 cells slots Q (F0 m (pc + 3) ls (.int r :: rest))) : W p l e R s m args below meth c H locs cells slots Q (F0 m pc ls st0) := by
  have hK := hC.2.2.2.2.2
  have hFc := hW.free
  refine va_calli (va_runV (As := As) (rest := rest) (C := C) ⟨hC.1, hC.2.1, hC.2.2.1, hC.2.2.2.1, hC.2.2.2.2.1⟩ (hM H.size) (cwV n hC.2.2.2.2.1 (lw_V q1 q2 q3 q4 q5) rfl hrc hrs hd hR) ⟨fun a U g mk q => by obtain ⟨q0, q1, qP, qK, qD⟩ := q; exact ⟨q0, q1, qP, va_K.moved (u := U) (U := U.calling g mk a) (Vm.Alike.refl U.vm) qK, qD⟩, va_recv hK hW.1 hci (q0 := 0) rfl, fun U hU hWm => ⟨rfl, by rw [hU], by rw [hU]; exact hW.1, va_K.moved hWm.alike hK, hW.2.1.weaken (fun _ _ _ _ => trivial)⟩⟩ rfl hn hl.1 hst (lv_room hroom) hdg hf) hW.2.2.1 (fun q _ h => hFc q h) hFc (fun r u t H1 locs1 ht hvm hpost hB hz1 hk1 hS => ?_)
  exact kk r u H1 locs1 hpost ⟨by rw [← ht]; exact hB.1, hB.2.2.weaken (fun _ q _ h => hFc q.1 h), hS, hW.2.2.2⟩
/-- a call without an answer -/
theorem sp_callV {post : S → Prop} (hC : sp_C p s m c args cc nL own D tys) (hW : sp_Wd D ((a, .inr (ci, fs)) :: w) A s.heap H locs) (hM : sp_MV l D tys y cy nLy rm (.ref a :: As) ((a, .inr (ci, fs)) :: w) post w')
    (q1 : Cond.methodLink own index y ∈ lw_all) (q2 : Cond.instanceMethod y ∈ lw_all) (q3 : Cond.selects C y y ∈ lw_all) (q4 : Cond.initialized C ∈ lw_all) (q5 : Cond.code y cy nLy none ∈ lw_all)
    (hci : vwCl[ci]? = some (C, T, N)) (hrc : rm.cells = 0) (hrs : rm.slots = 0)
    (hd : y.cls = C ∧ y.cls ≠ "java/lang/invoke/MethodHandle" ∧ y.cls ≠ "java/lang/invoke/VarHandle" ∧ (parseMethodDescriptor y.desc).map (fun d => d.parameters.length) = some n) (hR : rm.frames + 1 ≤ R.frames ∧ 8 + (nLy + 11) + rm.locals ≤ R.locals)
    (hn : As.length = n) (hl : lv_has ls nL lv) (hst : st0 = As.reverse ++ .ref a :: rest) (hroom : (rest.map fun v => v.category).sum ≤ 8) (hf : cells + 0 ≤ R.cells ∧ slots + 0 ≤ R.slots) (hdg : decode cc pc = .ok (.invokevirtual index, 3))
    (kk : ∀ (u : S) (H1 : Heap) (locs1 : List Loc), post u → sp_Wd D (w' u) A s.heap H1 locs1 → W p l e R s m args below meth c H1 locs1 cells slots Q (F0 m (pc + 3) ls rest)) : W p l e R s m args below meth c H locs cells slots Q (F0 m pc ls st0) := by
  have hK := hC.2.2.2.2.2
  have hFc := hW.free
  refine va_callv (va_runV (As := As) (rest := rest) (C := C) ⟨hC.1, hC.2.1, hC.2.2.1, hC.2.2.2.1, hC.2.2.2.2.1⟩ (hM H.size) (cwV n hC.2.2.2.2.1 (lw_V q1 q2 q3 q4 q5) rfl hrc hrs hd hR) ⟨fun a U g mk q => by obtain ⟨q0, q1, qP, qK, qD⟩ := q; exact ⟨q0, q1, qP, va_K.moved (u := U) (U := U.calling g mk a) (Vm.Alike.refl U.vm) qK, qD⟩, va_recv hK hW.1 hci (q0 := 0) rfl, fun U hU hWm => ⟨rfl, by rw [hU], by rw [hU]; exact hW.1, va_K.moved hWm.alike hK, hW.2.1.weaken (fun _ _ _ _ => trivial)⟩⟩ rfl hn hl.1 hst (lv_room hroom) hdg hf) hW.2.2.1 (fun q _ h => hFc q h) hFc (fun u t H1 locs1 ht hvm hpost hB hz1 hk1 hS => ?_)
  exact kk u H1 locs1 hpost ⟨by rw [← ht]; exact hB.1, hB.2.2.weaken (fun _ q _ h => hFc q.1 h), hS, hW.2.2.2⟩
end SPA
section SPB
variable {p : Program} {l : Launch} {e : Env} {R : Room} {s : State} {m : MethodId} {args : Array Value} {below : List Frame} {meth : Method} {c : Code} {H : Heap} {locs : List Loc} {cells slots : Nat} {Q : State → Prop}
variable {cc : ByteArray} {pc : Nat} {ls : Array Slot} {rest : List Value} {a b : Nat} {off : Int} {tgt : Nat}
theorem sp_icmp_ge (hx : p.tables.exec = Jvm.exec) (hb : c.code = cc) (hdg : decode cc pc = .ok (.if_icmp .ge off, 3)) (ht : (pc : Int) + off = (tgt : Int)) (ha : a < 2 ^ 31) (hb2 : b < 2 ^ 31)
    (kt : b ≤ a → W p l e R s m args below meth c H locs cells slots Q (F0 m tgt ls rest)) (kf : a < b → W p l e R s m args below meth c H locs cells slots Q (F0 m (pc + 3) ls rest)) : W p l e R s m args below meth c H locs cells slots Q (F0 m pc ls (.int (nI b) :: .int (nI a) :: rest)) :=
  lv_icmp_ge hx hb hdg ht (fun h => kt ((nI_leI hb2 ha).mp h)) (fun h => kf (Nat.not_le.mp (fun z => h ((nI_leI hb2 ha).mpr z))))
theorem sp_icmp_lt (hx : p.tables.exec = Jvm.exec) (hb : c.code = cc) (hdg : decode cc pc = .ok (.if_icmp .lt off, 3)) (ht : (pc : Int) + off = (tgt : Int)) (ha : a < 2 ^ 31) (hb2 : b < 2 ^ 31)
    (kt : a < b → W p l e R s m args below meth c H locs cells slots Q (F0 m tgt ls rest)) (kf : b ≤ a → W p l e R s m args below meth c H locs cells slots Q (F0 m (pc + 3) ls rest)) : W p l e R s m args below meth c H locs cells slots Q (F0 m pc ls (.int (nI b) :: .int (nI a) :: rest)) :=
  lv_icmp_lt hx hb hdg ht (fun h => kt ((nI_ltI ha hb2).mp h)) (fun h => kf (Nat.not_lt.mp (fun z => h ((nI_ltI ha hb2).mpr z))))
theorem sp_icmp_gt (hx : p.tables.exec = Jvm.exec) (hb : c.code = cc) (hdg : decode cc pc = .ok (.if_icmp .gt off, 3)) (ht : (pc : Int) + off = (tgt : Int)) (ha : a < 2 ^ 31) (hb2 : b < 2 ^ 31)
    (kt : b < a → W p l e R s m args below meth c H locs cells slots Q (F0 m tgt ls rest)) (kf : a ≤ b → W p l e R s m args below meth c H locs cells slots Q (F0 m (pc + 3) ls rest)) : W p l e R s m args below meth c H locs cells slots Q (F0 m pc ls (.int (nI b) :: .int (nI a) :: rest)) :=
  lv_icmp_gt hx hb hdg ht (fun h => kt ((nI_ltI hb2 ha).mp h)) (fun h => kf (Nat.not_lt.mp (fun z => h ((nI_ltI hb2 ha).mpr z))))
theorem sp_icmp_le (hx : p.tables.exec = Jvm.exec) (hb : c.code = cc) (hdg : decode cc pc = .ok (.if_icmp .le off, 3)) (ht : (pc : Int) + off = (tgt : Int)) (ha : a < 2 ^ 31) (hb2 : b < 2 ^ 31)
    (kt : a ≤ b → W p l e R s m args below meth c H locs cells slots Q (F0 m tgt ls rest)) (kf : b < a → W p l e R s m args below meth c H locs cells slots Q (F0 m (pc + 3) ls rest)) : W p l e R s m args below meth c H locs cells slots Q (F0 m pc ls (.int (nI b) :: .int (nI a) :: rest)) :=
  lv_icmp_le hx hb hdg ht (fun h => kt ((nI_leI ha hb2).mp h)) (fun h => kf (Nat.not_le.mp (fun z => h ((nI_leI ha hb2).mpr z))))
theorem sp_icmp_eq (hx : p.tables.exec = Jvm.exec) (hb : c.code = cc) (hdg : decode cc pc = .ok (.if_icmp .eq off, 3)) (ht : (pc : Int) + off = (tgt : Int)) (ha : a < 2 ^ 31) (hb2 : b < 2 ^ 31)
    (kt : a = b → W p l e R s m args below meth c H locs cells slots Q (F0 m tgt ls rest)) (kf : a ≠ b → W p l e R s m args below meth c H locs cells slots Q (F0 m (pc + 3) ls rest)) : W p l e R s m args below meth c H locs cells slots Q (F0 m pc ls (.int (nI b) :: .int (nI a) :: rest)) :=
  lv_icmp_eq hx hb hdg ht (fun h => kt ((nI_eq ha hb2).mp h)) (fun h => kf (fun z => h ((nI_eq ha hb2).mpr z)))
theorem sp_icmp_ne (hx : p.tables.exec = Jvm.exec) (hb : c.code = cc) (hdg : decode cc pc = .ok (.if_icmp .ne off, 3)) (ht : (pc : Int) + off = (tgt : Int)) (ha : a < 2 ^ 31) (hb2 : b < 2 ^ 31)
    (kt : a ≠ b → W p l e R s m args below meth c H locs cells slots Q (F0 m tgt ls rest)) (kf : a = b → W p l e R s m args below meth c H locs cells slots Q (F0 m (pc + 3) ls rest)) : W p l e R s m args below meth c H locs cells slots Q (F0 m pc ls (.int (nI b) :: .int (nI a) :: rest)) :=
  lv_icmp_ne hx hb hdg ht (fun h => kt (fun z => h ((nI_eq ha hb2).mpr z))) (fun h => kf ((nI_eq ha hb2).mp h))
theorem sp_if_eq (hx : p.tables.exec = Jvm.exec) (hb : c.code = cc) (hdg : decode cc pc = .ok (.ifCond .eq off, 3)) (ht : (pc : Int) + off = (tgt : Int)) (ha : a < 2 ^ 31)
    (kt : a = 0 → W p l e R s m args below meth c H locs cells slots Q (F0 m tgt ls rest)) (kf : a ≠ 0 → W p l e R s m args below meth c H locs cells slots Q (F0 m (pc + 3) ls rest)) : W p l e R s m args below meth c H locs cells slots Q (F0 m pc ls (.int (nI a) :: rest)) :=
  lv_if_eq hx hb hdg ht (fun h => kt ((nI_eq ha (show (0:Nat) < 2 ^ 31 by decide)).mp h)) (fun h => kf (fun z => h ((nI_eq ha (show (0:Nat) < 2 ^ 31 by decide)).mpr z)))
theorem sp_if_ne (hx : p.tables.exec = Jvm.exec) (hb : c.code = cc) (hdg : decode cc pc = .ok (.ifCond .ne off, 3)) (ht : (pc : Int) + off = (tgt : Int)) (ha : a < 2 ^ 31)
    (kt : a ≠ 0 → W p l e R s m args below meth c H locs cells slots Q (F0 m tgt ls rest)) (kf : a = 0 → W p l e R s m args below meth c H locs cells slots Q (F0 m (pc + 3) ls rest)) : W p l e R s m args below meth c H locs cells slots Q (F0 m pc ls (.int (nI a) :: rest)) :=
  lv_if_ne hx hb hdg ht (fun h => kt (fun z => h ((nI_eq ha (show (0:Nat) < 2 ^ 31 by decide)).mpr z))) (fun h => kf ((nI_eq ha (show (0:Nat) < 2 ^ 31 by decide)).mp h))
end SPB
end
section
/-! pure: a pile of grains on four places, legal topplings, least action -/
def sp_dg (E : Nat → Nat → Nat) (sk : Nat → Nat) (a : Nat) : Nat := sk a + (E a 0 + E a 1 + E a 2 + E a 3)
def sp_G (E : Nat → Nat → Nat) (sk : Nat → Nat) : Prop := (∀ a, a < 4 → 1 ≤ sk a ∧ E a a = 0) ∧ ∀ a b, a < 4 → b < 4 → E a b = E b a
def sp_fire (E : Nat → Nat → Nat) (sk : Nat → Nat) (a t : Nat) (c : Nat → Nat) : Nat → Nat := fun k => (if k = a then c k - t * sp_dg E sk a else c k) + (if k < 4 then t * E a k else 0)
def sp_Leg (E : Nat → Nat → Nat) (sk : Nat → Nat) : List Nat → (Nat → Nat) → (Nat → Nat) → Prop
  | [], c, d => ∀ k, k < 4 → c k = d k
  | a :: l, c, d => a < 4 ∧ sp_dg E sk a ≤ c a ∧ sp_Leg E sk l (sp_fire E sk a 1 c) d
def sp_Sb (E : Nat → Nat → Nat) (sk : Nat → Nat) (c : Nat → Nat) : Prop := ∀ k, k < 4 → c k < sp_dg E sk k
def sp_tot (c : Nat → Nat) : Nat := c 0 + c 1 + c 2 + c 3
theorem sp_lt4 {k : Nat} (h : k < 4) : k = 0 ∨ k = 1 ∨ k = 2 ∨ k = 3 := by omega
theorem sp_all4 {P : Nat → Prop} (h0 : P 0) (h1 : P 1) (h2 : P 2) (h3 : P 3) : ∀ k, k < 4 → P k := by
  intro k hk
  rcases sp_lt4 hk with rfl | rfl | rfl | rfl <;> assumption
section SM
variable {E : Nat → Nat → Nat} {sk : Nat → Nat}
theorem sp_fire_c {a t : Nat} {c d : Nat → Nat} (h : ∀ k, k < 4 → c k = d k) : ∀ k, k < 4 → sp_fire E sk a t c k = sp_fire E sk a t d k := by
  intro k hk
  simp only [sp_fire, h k hk]
theorem sp_Leg_cl : ∀ (l : List Nat) {c c' d : Nat → Nat}, (∀ k, k < 4 → c k = c' k) → sp_Leg E sk l c d → sp_Leg E sk l c' d
  | [], c, c', d, h, hl => fun k hk => (h k hk).symm.trans (hl k hk)
  | a :: l, c, c', d, h, hl => ⟨hl.1, by rw [← h a hl.1]; exact hl.2.1, sp_Leg_cl l (sp_fire_c h) hl.2.2⟩
theorem sp_Leg_cr : ∀ (l : List Nat) {c d d' : Nat → Nat}, (∀ k, k < 4 → d k = d' k) → sp_Leg E sk l c d → sp_Leg E sk l c d'
  | [], c, d, d', h, hl => fun k hk => (hl k hk).trans (h k hk)
  | a :: l, c, d, d', h, hl => ⟨hl.1, hl.2.1, sp_Leg_cr l h hl.2.2⟩
theorem sp_Leg_app : ∀ (l l' : List Nat) {c d f : Nat → Nat}, sp_Leg E sk l c d → sp_Leg E sk l' d f → sp_Leg E sk (l ++ l') c f
  | [], l', c, d, f, h, h' => sp_Leg_cl l' (fun k hk => (h k hk).symm) h'
  | a :: l, l', c, d, f, h, h' => ⟨h.1, h.2.1, sp_Leg_app l l' h.2.2 h'⟩
theorem sp_lin : ∀ (l : List Nat) (c d : Nat → Nat), sp_Leg E sk l c d → ∀ k, k < 4 → d k + l.count k * sp_dg E sk k = c k + (l.count 0 * E 0 k + l.count 1 * E 1 k + l.count 2 * E 2 k + l.count 3 * E 3 k) := by
  intro l
  induction l with
  | nil =>
    intro c d h k hk
    simp [h k hk]
  | cons a l ih =>
    intro c d h k hk
    obtain ⟨ha, hd, h⟩ := h
    have h1 := ih _ _ h k hk
    rcases sp_lt4 ha with rfl | rfl | rfl | rfl <;> rcases sp_lt4 hk with rfl | rfl | rfl | rfl <;> simp [sp_fire, List.count_cons, Nat.add_mul] at h1 ⊢ <;> omega
theorem sp_len : ∀ (l : List Nat) (c d : Nat → Nat), sp_Leg E sk l c d → l.length = l.count 0 + l.count 1 + l.count 2 + l.count 3 := by
  intro l
  induction l with
  | nil => intro c d h; simp
  | cons a l ih =>
    intro c d h
    obtain ⟨ha, hd, h⟩ := h
    have h1 := ih _ _ h
    rcases sp_lt4 ha with rfl | rfl | rfl | rfl <;> simp [List.count_cons] <;> omega
theorem sp_least {l : List Nat} {c d : Nat → Nat} (h : sp_Leg E sk l c d) (hd : sp_Sb E sk d) : ∀ (l' : List Nat) (c1 d' : Nat → Nat) (p : Nat → Nat), (∀ k, k < 4 → c1 k + p k * sp_dg E sk k = c k + (p 0 * E 0 k + p 1 * E 1 k + p 2 * E 2 k + p 3 * E 3 k)) → (∀ k, k < 4 → p k ≤ l.count k) → sp_Leg E sk l' c1 d' → ∀ k, k < 4 → p k + l'.count k ≤ l.count k := by
  intro l'
  induction l' with
  | nil =>
    intro c1 d' p h1 h2 h3 k hk
    simpa using h2 k hk
  | cons x l' ih =>
    intro c1 d' p h1 h2 h3 k hk
    obtain ⟨hx, hdx, h3⟩ := h3
    have hlt : p x < l.count x := by
      rcases Nat.lt_or_ge (p x) (l.count x) with q | q
      · exact q
      · exfalso
        have e : p x = l.count x := Nat.le_antisymm (h2 x hx) q
        have a1 := sp_lin l c d h x hx
        have a2 := h1 x hx
        have a3 := hd x hx
        have b0 : p 0 * E 0 x ≤ l.count 0 * E 0 x := Nat.mul_le_mul_right _ (h2 0 (by omega))
        have b1 : p 1 * E 1 x ≤ l.count 1 * E 1 x := Nat.mul_le_mul_right _ (h2 1 (by omega))
        have b2 : p 2 * E 2 x ≤ l.count 2 * E 2 x := Nat.mul_le_mul_right _ (h2 2 (by omega))
        have b3 : p 3 * E 3 x ≤ l.count 3 * E 3 x := Nat.mul_le_mul_right _ (h2 3 (by omega))
        rw [e] at a2
        omega
    have key := ih (sp_fire E sk x 1 c1) d' (fun q => p q + if q = x then 1 else 0) (by
      intro q hq
      have a2 := h1 q hq
      rcases sp_lt4 hx with rfl | rfl | rfl | rfl <;> rcases sp_lt4 hq with rfl | rfl | rfl | rfl <;> simp [sp_fire, Nat.add_mul] at a2 ⊢ <;> omega) (by
      intro q hq
      by_cases e : q = x
      · subst e; simp; omega
      · simp [e]; exact h2 q hq) h3 k hk
    by_cases e : k = x
    · subst e
      simp [List.count_cons] at key ⊢
      omega
    · have e2 : (x == k) = false := by simp; omega
      simp [List.count_cons, e, e2] at key ⊢
      omega
/-- two ways to the end: the same number of topplings, the same end -/
theorem sp_uni {l l' : List Nat} {c d d' : Nat → Nat} (h : sp_Leg E sk l c d) (hd : sp_Sb E sk d) (h' : sp_Leg E sk l' c d') (hd' : sp_Sb E sk d') : l.length = l'.length ∧ ∀ k, k < 4 → d k = d' k := by
  have a := sp_least h hd l' c d' (fun _ => 0) (by intro k hk; simp) (by intro k hk; simp) h'
  have b := sp_least h' hd' l c d (fun _ => 0) (by intro k hk; simp) (by intro k hk; simp) h
  have e : ∀ k, k < 4 → l.count k = l'.count k := fun k hk => by have := a k hk; have := b k hk; omega
  refine ⟨?_, fun k hk => ?_⟩
  · rw [sp_len l c d h, sp_len l' c d' h', e 0 (by omega), e 1 (by omega), e 2 (by omega), e 3 (by omega)]
  · have a1 := sp_lin l c d h k hk
    have a2 := sp_lin l' c d' h' k hk
    rw [e 0 (by omega), e 1 (by omega), e 2 (by omega), e 3 (by omega), e k hk] at a1
    omega
theorem sp_fire_tot {a : Nat} {c : Nat → Nat} (ha : a < 4) (h : sp_dg E sk a ≤ c a) : sp_tot (sp_fire E sk a 1 c) + sk a = sp_tot c := by
  rcases sp_lt4 ha with rfl | rfl | rfl | rfl <;> simp [sp_tot, sp_fire, sp_dg] at h ⊢ <;> omega
theorem sp_Leg_tot (hG : sp_G E sk) : ∀ (l : List Nat) {c d : Nat → Nat}, sp_Leg E sk l c d → sp_tot d + l.length ≤ sp_tot c
  | [], c, d, h => by simp [sp_tot, h 0 (by omega), h 1 (by omega), h 2 (by omega), h 3 (by omega)]
  | a :: l, c, d, h => by
    have h1 := sp_Leg_tot hG l h.2.2
    have h2 := sp_fire_tot h.1 h.2.1
    have h3 := (hG.1 a h.1).1
    simp
    omega
theorem sp_ex (hG : sp_G E sk) : ∀ (n : Nat) (c : Nat → Nat), sp_tot c ≤ n → ∃ l d, sp_Leg E sk l c d ∧ sp_Sb E sk d := by
  intro n
  induction n with
  | zero =>
    intro c hc
    refine ⟨[], c, fun _ _ => rfl, fun k hk => ?_⟩
    have h1 := (hG.1 k hk).1
    have : c k = 0 := by
      simp only [sp_tot] at hc
      rcases sp_lt4 hk with rfl | rfl | rfl | rfl <;> omega
    simp only [sp_dg]; omega
  | succ n ih =>
    intro c hc
    by_cases hs : sp_Sb E sk c
    · exact ⟨[], c, fun _ _ => rfl, hs⟩
    · have : ∃ a, a < 4 ∧ sp_dg E sk a ≤ c a := by
        refine Classical.byContradiction (fun q => hs (fun k hk => ?_))
        rcases Nat.lt_or_ge (c k) (sp_dg E sk k) with z | z
        · exact z
        · exact absurd ⟨k, hk, z⟩ q
      obtain ⟨a, ha, hd⟩ := this
      have h2 := sp_fire_tot ha hd
      have h3 := (hG.1 a ha).1
      obtain ⟨l, d, h4, h5⟩ := ih (sp_fire E sk a 1 c) (by omega)
      exact ⟨a :: l, d, ⟨ha, hd, h4⟩, h5⟩
/-- more grains: the same topplings are legal -/
theorem sp_mono : ∀ (l : List Nat) {c d : Nat → Nat} (x : Nat → Nat), sp_Leg E sk l c d → sp_Leg E sk l (fun k => c k + x k) (fun k => d k + x k)
  | [], c, d, x, h => fun k hk => by show c k + x k = d k + x k; rw [h k hk]
  | a :: l, c, d, x, h => by
    refine ⟨h.1, Nat.le_trans h.2.1 (Nat.le_add_right _ _), sp_Leg_cl l (fun k hk => ?_) (sp_mono l x h.2.2)⟩
    have := h.2.1
    by_cases e : k = a
    · subst e; simp [sp_fire, hk]; omega
    · simp [sp_fire, hk, e]; omega
theorem sp_fire0 {a : Nat} {c : Nat → Nat} : ∀ k, k < 4 → sp_fire E sk a 0 c k = c k := by
  intro k hk
  by_cases e : k = a
  · simp [sp_fire, e]
  · simp [sp_fire, e]
/-- a place topples t times at once -/
theorem sp_batch (hG : sp_G E sk) {a : Nat} (ha : a < 4) : ∀ (t : Nat) {c : Nat → Nat}, t * sp_dg E sk a ≤ c a → sp_Leg E sk (List.replicate t a) c (sp_fire E sk a t c) := by
  intro t
  induction t with
  | zero => intro c h; exact fun k hk => (sp_fire0 k hk).symm
  | succ t ih =>
    intro c h
    have h0 := (hG.1 a ha).2
    rw [Nat.add_mul, Nat.one_mul] at h
    refine ⟨ha, by omega, sp_Leg_cr _ (fun k hk => ?_) (ih (c := sp_fire E sk a 1 c) (by simp [sp_fire, h0]; omega))⟩
    by_cases e : k = a
    · subst e
      simp [sp_fire, h0, Nat.add_mul]
      omega
    · simp [sp_fire, e, hk, Nat.add_mul]
      omega
end SM
end
section
/-! pure: no forbidden part, recurrent piles, one in each coset -/
def sp_sF (E : Nat → Nat → Nat) (F : Nat → Bool) (a : Nat) : Nat := (if F 0 = true then E a 0 else 0) + (if F 1 = true then E a 1 else 0) + (if F 2 = true then E a 2 else 0) + (if F 3 = true then E a 3 else 0)
def sp_NoF (E : Nat → Nat → Nat) (c : Nat → Nat) : Prop := ∀ F : Nat → Bool, (∃ a, a < 4 ∧ F a = true) → ∃ a, a < 4 ∧ F a = true ∧ sp_sF E F a ≤ c a
def sp_Rec (E : Nat → Nat → Nat) (sk : Nat → Nat) (c : Nat → Nat) : Prop := sp_Sb E sk c ∧ sp_NoF E c
/-- the lattice of topplings -/
def sp_La (E : Nat → Nat → Nat) (sk : Nat → Nat) (x : Nat → Int) : Prop := ∃ z : Nat → Int, ∀ k, k < 4 → x k = z 0 * (E 0 k : Int) + z 1 * (E 1 k : Int) + z 2 * (E 2 k : Int) + z 3 * (E 3 k : Int) - z k * (sp_dg E sk k : Int)
section SM2
variable {E : Nat → Nat → Nat} {sk : Nat → Nat}
theorem sp_sF_rm {F : Nat → Bool} {x a : Nat} (hx : x < 4) (h : F x = true) : sp_sF E F a = sp_sF E (fun b => F b && (b != x)) a + E a x := by
  rcases sp_lt4 hx with rfl | rfl | rfl | rfl <;> simp [sp_sF, h] <;> omega
theorem sp_NoF_mono {c c' : Nat → Nat} (h : sp_NoF E c) (hc : ∀ k, k < 4 → c k ≤ c' k) : sp_NoF E c' := by
  intro F hF
  obtain ⟨a, ha, hFa, h1⟩ := h F hF
  exact ⟨a, ha, hFa, Nat.le_trans h1 (hc a ha)⟩
theorem sp_NoF_fire (hG : sp_G E sk) {c : Nat → Nat} {x : Nat} (hx : x < 4) (hd : sp_dg E sk x ≤ c x) (h : sp_NoF E c) : sp_NoF E (sp_fire E sk x 1 c) := by
  intro F hF
  by_cases hFx : F x = true
  · by_cases hF' : ∃ a, a < 4 ∧ (fun b => F b && (b != x)) a = true
    · obtain ⟨a, ha, hFa, h1⟩ := h _ hF'
      have hFa : (F a && (a != x)) = true := hFa
      simp only [Bool.and_eq_true, bne_iff_ne, ne_eq] at hFa
      refine ⟨a, ha, hFa.1, ?_⟩
      rw [sp_sF_rm hx hFx, hG.2 a x ha hx]
      simp [sp_fire, hFa.2, ha]
      omega
    · refine ⟨x, hx, hFx, ?_⟩
      have e : sp_sF E (fun b => F b && (b != x)) x = 0 := by
        have n : ∀ b, b < 4 → (F b && (b != x)) = false := fun b hb => by
          cases e : (F b && (b != x)) with
          | false => rfl
          | true => exact absurd ⟨b, hb, e⟩ hF'
        simp only [sp_sF, n 0 (by omega), n 1 (by omega), n 2 (by omega), n 3 (by omega)]
        simp
      rw [sp_sF_rm hx hFx, e, (hG.1 x hx).2]
      exact Nat.zero_le _
  · obtain ⟨a, ha, hFa, h1⟩ := h F hF
    refine ⟨a, ha, hFa, ?_⟩
    have : a ≠ x := fun e => hFx (e ▸ hFa)
    simp [sp_fire, this, ha]
    omega
theorem sp_NoF_c {c c' : Nat → Nat} (h : sp_NoF E c) (hc : ∀ k, k < 4 → c k = c' k) : sp_NoF E c' := sp_NoF_mono h (fun k hk => Nat.le_of_eq (hc k hk))
theorem sp_NoF_Leg (hG : sp_G E sk) : ∀ (l : List Nat) {c d : Nat → Nat}, sp_Leg E sk l c d → sp_NoF E c → sp_NoF E d
  | [], c, d, h, hn => sp_NoF_c hn h
  | a :: l, c, d, h, hn => sp_NoF_Leg hG l h.2.2 (sp_NoF_fire hG h.1 h.2.1 hn)
theorem sp_NoF_full (hG : sp_G E sk) {c : Nat → Nat} (h : ∀ k, k < 4 → sp_dg E sk k ≤ c k + 1) : sp_NoF E c := by
  intro F hF
  obtain ⟨a, ha, hFa⟩ := hF
  refine ⟨a, ha, hFa, ?_⟩
  have h1 := h a ha
  have h2 := (hG.1 a ha).1
  simp only [sp_dg] at h1
  have : sp_sF E F a ≤ E a 0 + E a 1 + E a 2 + E a 3 := by
    simp only [sp_sF]
    refine Nat.add_le_add (Nat.add_le_add (Nat.add_le_add ?_ ?_) ?_) ?_ <;> split <;> omega
  omega
/-- how many are in F -/
def sp_nF (F : Nat → Bool) : Nat := (if F 0 = true then 1 else 0) + (if F 1 = true then 1 else 0) + (if F 2 = true then 1 else 0) + (if F 3 = true then 1 else 0)
theorem sp_nF_rm {F : Nat → Bool} {x : Nat} (hx : x < 4) (h : F x = true) : sp_nF F = sp_nF (fun b => F b && (b != x)) + 1 := by
  rcases sp_lt4 hx with rfl | rfl | rfl | rfl <;> simp [sp_nF, h] <;> omega
theorem sp_burnL (hG : sp_G E sk) {c : Nat → Nat} (hn : sp_NoF E c) : ∀ (n : Nat) (F : Nat → Bool) (y : Nat → Nat), sp_nF F = n → (∀ k, k < 4 → y k + (if F k = true then 0 else sp_dg E sk k) + sp_sF E F k = c k + sp_dg E sk k) → ∃ l, sp_Leg E sk l y c := by
  intro n
  induction n with
  | zero =>
    intro F y hF hy
    refine ⟨[], fun k hk => ?_⟩
    have h := hy k hk
    have n : ∀ b, b < 4 → F b = false := fun b hb => by
      cases e : F b with
      | false => rfl
      | true =>
        exfalso
        rw [sp_nF_rm hb e] at hF
        omega
    simp [sp_sF, n 0 (by omega), n 1 (by omega), n 2 (by omega), n 3 (by omega), n k hk] at h
    omega
  | succ n ih =>
    intro F y hF hy
    have hne : ∃ a, a < 4 ∧ F a = true := by
      refine Classical.byContradiction (fun q => ?_)
      have n : ∀ b, b < 4 → F b = false := fun b hb => by
        cases e : F b with
        | false => rfl
        | true => exact absurd ⟨b, hb, e⟩ q
      simp [sp_nF, n 0 (by omega), n 1 (by omega), n 2 (by omega), n 3 (by omega)] at hF
    obtain ⟨x, hx, hFx, h1⟩ := hn F hne
    have h2 := hy x hx
    simp [hFx] at h2
    obtain ⟨l, hl⟩ := ih (fun b => F b && (b != x)) (sp_fire E sk x 1 y) (by rw [sp_nF_rm hx hFx] at hF; omega) (by
      intro k hk
      have h3 := hy k hk
      rw [sp_sF_rm hx hFx] at h3
      by_cases e : k = x
      · subst e
        simp [sp_fire, hFx, (hG.1 k hx).2] at h3 ⊢
        omega
      · have e2 := hG.2 k x hk hx
        simp [sp_fire, e, hk] at h3 ⊢
        omega)
    exact ⟨x :: l, hx, by omega, hl⟩
/-- the sink topples once, and the pile comes back -/
theorem sp_burn1 (hG : sp_G E sk) {c : Nat → Nat} (hn : sp_NoF E c) : ∃ l, sp_Leg E sk l (fun k => c k + sk k) c :=
  sp_burnL hG hn 4 (fun _ => true) _ rfl (fun k hk => by simp [sp_sF, sp_dg]; omega)
theorem sp_burnK (hG : sp_G E sk) {c : Nat → Nat} (hn : sp_NoF E c) : ∀ K : Nat, ∃ l, sp_Leg E sk l (fun k => c k + K * sk k) c := by
  intro K
  induction K with
  | zero => exact ⟨[], fun k _ => by simp⟩
  | succ K ih =>
    obtain ⟨l, hl⟩ := ih
    obtain ⟨l1, hl1⟩ := sp_burn1 hG hn
    refine ⟨l1 ++ l, sp_Leg_app l1 l (sp_Leg_cl l1 (fun k hk => ?_) (sp_mono l1 (fun k => K * sk k) hl1)) hl⟩
    simp [Nat.add_mul]; omega
theorem sp_vec (hG : sp_G E sk) {P X Y : Nat → Nat} (h1 : ∀ k, k < 4 → P k * sp_dg E sk k ≤ X k) (h2 : ∀ k, k < 4 → Y k + P k * sp_dg E sk k = X k + (P 0 * E 0 k + P 1 * E 1 k + P 2 * E 2 k + P 3 * E 3 k)) : ∃ l, sp_Leg E sk l X Y := by
  have b0 := sp_batch hG (a := 0) (by omega) (P 0) (c := X) (h1 0 (by omega))
  have b1 := sp_batch hG (a := 1) (by omega) (P 1) (c := sp_fire E sk 0 (P 0) X) (by have := h1 1 (by omega); simp [sp_fire]; omega)
  have b2 := sp_batch hG (a := 2) (by omega) (P 2) (c := sp_fire E sk 1 (P 1) (sp_fire E sk 0 (P 0) X)) (by have := h1 2 (by omega); simp [sp_fire]; omega)
  have b3 := sp_batch hG (a := 3) (by omega) (P 3) (c := sp_fire E sk 2 (P 2) (sp_fire E sk 1 (P 1) (sp_fire E sk 0 (P 0) X))) (by have := h1 3 (by omega); simp [sp_fire]; omega)
  refine ⟨_, sp_Leg_cr _ (fun k hk => ?_) (sp_Leg_app _ _ b0 (sp_Leg_app _ _ b1 (sp_Leg_app _ _ b2 b3)))⟩
  have a1 := h1 k hk
  have a2 := h2 k hk
  rcases sp_lt4 hk with rfl | rfl | rfl | rfl <;> simp [sp_fire] <;> omega
theorem sp_mE (hE : ∀ a b, a < 4 → b < 4 → E a b ≤ 1) {P : Nat → Nat} {K : Nat} {k a : Nat} (hk : k < 4) (ha : a < 4) (h : P a ≤ K) : P a * E a k ≤ K := by
  have := Nat.mul_le_mul (Nat.le_refl (P a)) (hE a k ha hk)
  omega
/-- in each coset at most one recurrent pile -/
theorem sp_coset (hG : sp_G E sk) (hE : ∀ a b, a < 4 → b < 4 → E a b ≤ 1) {r1 r2 : Nat → Nat} (h1 : sp_Rec E sk r1) (h2 : sp_Rec E sk r2) (h : sp_La E sk (fun k => (r1 k : Int) - (r2 k : Int))) : ∀ k, k < 4 → r1 k = r2 k := by
  obtain ⟨z, hz⟩ := h
  obtain ⟨P, hP⟩ : ∃ P : Nat → Nat, P = fun a => (z a).toNat := ⟨_, rfl⟩
  obtain ⟨N, hN⟩ : ∃ N : Nat → Nat, N = fun a => (-(z a)).toNat := ⟨_, rfl⟩
  have hzz : ∀ a, z a = (P a : Int) - (N a : Int) := fun a => by rw [hP, hN]; show z a = ((z a).toNat : Int) - ((-(z a)).toNat : Int); omega
  have base : ∀ k, k < 4 → r1 k + (N 0 * E 0 k + N 1 * E 1 k + N 2 * E 2 k + N 3 * E 3 k) + P k * sp_dg E sk k = r2 k + (P 0 * E 0 k + P 1 * E 1 k + P 2 * E 2 k + P 3 * E 3 k) + N k * sp_dg E sk k := by
    intro k hk
    have := hz k hk
    rw [hzz 0, hzz 1, hzz 2, hzz 3, hzz k] at this
    simp only [Int.sub_mul] at this
    have e : ((r1 k + (N 0 * E 0 k + N 1 * E 1 k + N 2 * E 2 k + N 3 * E 3 k) + P k * sp_dg E sk k : Nat) : Int) = ((r2 k + (P 0 * E 0 k + P 1 * E 1 k + P 2 * E 2 k + P 3 * E 3 k) + N k * sp_dg E sk k : Nat) : Int) := by
      simp only [Int.natCast_add, Int.natCast_mul]
      omega
    exact Int.ofNat.inj e
  obtain ⟨K, hK⟩ : ∃ K : Nat, K = P 0 + P 1 + P 2 + P 3 + (N 0 + N 1 + N 2 + N 3) := ⟨_, rfl⟩
  obtain ⟨X, hX⟩ : ∃ X : Nat → Nat, X = fun k => r1 k + K * sk k + P k * sp_dg E sk k - (P 0 * E 0 k + P 1 * E 1 k + P 2 * E 2 k + P 3 * E 3 k) := ⟨_, rfl⟩
  have hle : ∀ (V : Nat → Nat), V 0 + V 1 + V 2 + V 3 ≤ K → ∀ k, k < 4 → V 0 * E 0 k + V 1 * E 1 k + V 2 * E 2 k + V 3 * E 3 k ≤ K * sk k := by
    intro V hV k hk
    have g0 := sp_mE hE (P := V) hk (show 0 < 4 by omega) (Nat.le_refl (V 0))
    have g1 := sp_mE hE (P := V) hk (show 1 < 4 by omega) (Nat.le_refl (V 1))
    have g2 := sp_mE hE (P := V) hk (show 2 < 4 by omega) (Nat.le_refl (V 2))
    have g3 := sp_mE hE (P := V) hk (show 3 < 4 by omega) (Nat.le_refl (V 3))
    have g4 : K * 1 ≤ K * sk k := Nat.mul_le_mul_left _ (hG.1 k hk).1
    omega
  have x1 : ∀ k, k < 4 → X k = r1 k + K * sk k + P k * sp_dg E sk k - (P 0 * E 0 k + P 1 * E 1 k + P 2 * E 2 k + P 3 * E 3 k) := fun k _ => by rw [hX]
  have p1 := hle P (by omega)
  have n1 := hle N (by omega)
  obtain ⟨l1, e1⟩ := sp_vec hG (P := P) (X := X) (Y := fun k => r1 k + K * sk k) (fun k hk => by have := x1 k hk; have := p1 k hk; omega) (fun k hk => by have := x1 k hk; have := p1 k hk; show r1 k + K * sk k + _ = _; omega)
  obtain ⟨l2, e2⟩ := sp_vec hG (P := N) (X := X) (Y := fun k => r2 k + K * sk k) (fun k hk => by have := x1 k hk; have := p1 k hk; have := n1 k hk; have := base k hk; omega) (fun k hk => by have := x1 k hk; have := p1 k hk; have := base k hk; show r2 k + K * sk k + _ = _; omega)
  obtain ⟨m1, f1⟩ := sp_burnK hG h1.2 K
  obtain ⟨m2, f2⟩ := sp_burnK hG h2.2 K
  exact (sp_uni (sp_Leg_app _ _ e1 f1) h1.1 (sp_Leg_app _ _ e2 f2) h2.1).2
theorem sp_La_c {x y : Nat → Int} (h : sp_La E sk x) (e : ∀ k, k < 4 → x k = y k) : sp_La E sk y := by
  obtain ⟨z, hz⟩ := h
  exact ⟨z, fun k hk => (e k hk).symm.trans (hz k hk)⟩
theorem sp_La_add {x y : Nat → Int} (h : sp_La E sk x) (h' : sp_La E sk y) : sp_La E sk (fun k => x k + y k) := by
  obtain ⟨z, hz⟩ := h
  obtain ⟨z', hz'⟩ := h'
  refine ⟨fun a => z a + z' a, fun k hk => ?_⟩
  have := hz k hk
  have := hz' k hk
  simp only [Int.add_mul]
  omega
theorem sp_La_mul {x : Nat → Int} (t : Int) (h : sp_La E sk x) : sp_La E sk (fun k => t * x k) := by
  obtain ⟨z, hz⟩ := h
  refine ⟨fun a => t * z a, fun k hk => ?_⟩
  have := hz k hk
  show t * x k = _
  rw [this]
  simp only [Int.mul_sub, Int.mul_add, Int.mul_assoc]
theorem sp_La_neg {x : Nat → Int} (h : sp_La E sk x) : sp_La E sk (fun k => - x k) := sp_La_c (sp_La_mul (-1) h) (fun k _ => by omega)
theorem sp_La_0 : sp_La E sk (fun _ => 0) := ⟨fun _ => 0, fun k _ => by simp⟩
theorem sp_La_Leg {l : List Nat} {c d : Nat → Nat} (h : sp_Leg E sk l c d) : sp_La E sk (fun k => (d k : Int) - (c k : Int)) := by
  refine ⟨fun a => (l.count a : Int), fun k hk => ?_⟩
  have := sp_lin l c d h k hk
  have e : ((d k + l.count k * sp_dg E sk k : Nat) : Int) = ((c k + (l.count 0 * E 0 k + l.count 1 * E 1 k + l.count 2 * E 2 k + l.count 3 * E 3 k) : Nat) : Int) := congrArg _ this
  simp only [Int.natCast_add, Int.natCast_mul] at e
  dsimp only
  omega
end SM2
end
section
/-! pure: graphs as sets of bits, packed states, the burning test -/
def sp_E (nb : Nat → Nat) (a b : Nat) : Nat := nb a / 2 ^ b % 2
def sp_Ok (nb sk : Nat → Nat) : Prop := (∀ a, a < 4 → nb a < 16 ∧ 1 ≤ sk a ∧ sk a ≤ 2 ∧ sp_E nb a a = 0) ∧ ∀ a b, a < 4 → b < 4 → sp_E nb a b = sp_E nb b a
def sp_pk (c : Nat → Nat) : Nat := 512 * c 0 + 64 * c 1 + 8 * c 2 + c 3
def sp_dt (s a : Nat) : Nat := s / 8 ^ (3 - a) % 8
theorem sp_E1 (nb : Nat → Nat) (a b : Nat) : sp_E nb a b ≤ 1 := by
  have := Nat.mod_lt (nb a / 2 ^ b) (show 0 < 2 by decide)
  simp only [sp_E]; omega
theorem sp_Ok.G {nb sk : Nat → Nat} (h : sp_Ok nb sk) : sp_G (sp_E nb) sk := ⟨fun a ha => ⟨(h.1 a ha).2.1, (h.1 a ha).2.2.2⟩, h.2⟩
theorem sp_Ok.dg5 {nb sk : Nat → Nat} (h : sp_Ok nb sk) : ∀ k, k < 4 → sp_dg (sp_E nb) sk k ≤ 5 := by
  intro k hk
  have h1 := h.1 k hk
  have e0 := sp_E1 nb k 0
  have e1 := sp_E1 nb k 1
  have e2 := sp_E1 nb k 2
  have e3 := sp_E1 nb k 3
  simp only [sp_dg]
  rcases sp_lt4 hk with rfl | rfl | rfl | rfl <;> omega
theorem sp_Ok.dg1 {nb sk : Nat → Nat} (h : sp_Ok nb sk) : ∀ k, k < 4 → 1 ≤ sp_dg (sp_E nb) sk k := by
  intro k hk
  have h1 := h.1 k hk
  simp only [sp_dg]; omega
theorem sp_pk_c {c d : Nat → Nat} (h : ∀ k, k < 4 → c k = d k) : sp_pk c = sp_pk d := by
  simp only [sp_pk, h 0 (by omega), h 1 (by omega), h 2 (by omega), h 3 (by omega)]
theorem sp_pk_lt {c : Nat → Nat} (h : ∀ k, k < 4 → c k < 8) : sp_pk c < 4096 := by
  have := h 0 (by omega); have := h 1 (by omega); have := h 2 (by omega); have := h 3 (by omega)
  simp only [sp_pk]; omega
theorem sp_dt_pk {c : Nat → Nat} (h : ∀ k, k < 4 → c k < 8) : ∀ k, k < 4 → sp_dt (sp_pk c) k = c k := by
  have := h 0 (by omega); have := h 1 (by omega); have := h 2 (by omega); have := h 3 (by omega)
  intro k hk
  simp only [sp_pk, sp_dt]
  rcases sp_lt4 hk with rfl | rfl | rfl | rfl <;> simp <;> omega
theorem sp_pk_dt {s : Nat} (h : s < 4096) : sp_pk (sp_dt s) = s := by
  simp only [sp_pk, sp_dt]; simp; omega
theorem sp_dt_lt (s a : Nat) : sp_dt s a < 8 := Nat.mod_lt _ (by decide)
theorem sp_dt_inj {s t : Nat} (hs : s < 4096) (ht : t < 4096) (h : ∀ k, k < 4 → sp_dt s k = sp_dt t k) : s = t := by
  rw [← sp_pk_dt hs, ← sp_pk_dt ht]
  exact sp_pk_c h
/-! the burning test -/
def sp_un (x m : Nat) : Nat := x &&& (15 ^^^ m)
def sp_cb (u : Nat) : Nat := u % 2 + u / 2 % 2 + u / 4 % 2 + u / 8 % 2
def sp_b1 (nb c : Nat → Nat) (m a : Nat) : Nat := if sp_cb (sp_un (nb a) m) ≤ c a then m ||| 2 ^ a else m
def sp_b4 (nb c : Nat → Nat) (m : Nat) : Nat := sp_b1 nb c (sp_b1 nb c (sp_b1 nb c (sp_b1 nb c m 0) 1) 2) 3
def sp_bn (nb c : Nat → Nat) : Nat := sp_b4 nb c (sp_b4 nb c (sp_b4 nb c (sp_b4 nb c 0)))
def sp_cF (m : Nat) : Nat → Bool := fun b => m / 2 ^ b % 2 == 0
theorem sp_cb_eq : ∀ x, x < 16 → ∀ m, m < 16 → sp_cb (sp_un x m) = (if m % 2 = 0 then x % 2 else 0) + (if m / 2 % 2 = 0 then x / 2 % 2 else 0) + (if m / 4 % 2 = 0 then x / 4 % 2 else 0) + (if m / 8 % 2 = 0 then x / 8 % 2 else 0) := by decide +kernel
theorem sp_cb_sF {nb : Nat → Nat} {a m : Nat} (ha : nb a < 16) (hm : m < 16) : sp_cb (sp_un (nb a) m) = sp_sF (sp_E nb) (sp_cF m) a := by
  rw [sp_cb_eq _ ha _ hm]
  simp [sp_sF, sp_cF, sp_E]
theorem sp_or_b : ∀ m, m < 16 → ∀ a, a < 4 → (m ||| 2 ^ a) < 16 ∧ sp_cb m ≤ sp_cb (m ||| 2 ^ a) ∧ (sp_cb (m ||| 2 ^ a) = sp_cb m → m ||| 2 ^ a = m) ∧ (∀ b, b < 4 → b ≠ a → (m ||| 2 ^ a) / 2 ^ b % 2 = m / 2 ^ b % 2) ∧ (m ||| 2 ^ a) / 2 ^ a % 2 = 1 := by decide +kernel
theorem sp_cb4 : ∀ m, m < 16 → sp_cb m ≤ 4 ∧ (sp_cb m = 4 → m = 15) := by decide +kernel
theorem sp_b1_ok {nb c : Nat → Nat} {m a : Nat} (hm : m < 16) (ha : a < 4) : sp_b1 nb c m a < 16 ∧ sp_cb m ≤ sp_cb (sp_b1 nb c m a) ∧ (sp_cb (sp_b1 nb c m a) = sp_cb m → sp_b1 nb c m a = m) := by
  unfold sp_b1
  split
  · exact ⟨(sp_or_b m hm a ha).1, (sp_or_b m hm a ha).2.1, (sp_or_b m hm a ha).2.2.1⟩
  · exact ⟨hm, Nat.le_refl _, fun _ => rfl⟩
theorem sp_b4_lt {nb c : Nat → Nat} {m : Nat} (hm : m < 16) : sp_b4 nb c m < 16 :=
  (sp_b1_ok (sp_b1_ok (sp_b1_ok (sp_b1_ok hm (by decide)).1 (by decide)).1 (by decide)).1 (by decide)).1
/-- a round that changes nothing: every place that isn't burnt has too few -/
theorem sp_b4_fix {nb c : Nat → Nat} {m : Nat} (hm : m < 16) : sp_cb m ≤ sp_cb (sp_b4 nb c m) ∧ (sp_cb (sp_b4 nb c m) = sp_cb m → ∀ a, a < 4 → sp_b1 nb c m a = m) := by
  obtain ⟨a1, a2, a3⟩ := sp_b1_ok (nb := nb) (c := c) hm (show 0 < 4 by decide)
  obtain ⟨b1, b2, b3⟩ := sp_b1_ok (nb := nb) (c := c) a1 (show 1 < 4 by decide)
  obtain ⟨c1, c2, c3⟩ := sp_b1_ok (nb := nb) (c := c) b1 (show 2 < 4 by decide)
  obtain ⟨d1, d2, d3⟩ := sp_b1_ok (nb := nb) (c := c) c1 (show 3 < 4 by decide)
  unfold sp_b4
  refine ⟨by omega, fun h => ?_⟩
  have x0 := a3 (by omega)
  have x1 := b3 (by omega)
  have x2 := c3 (by omega)
  have x3 := d3 (by omega)
  rw [x0] at x1
  rw [x0, x1] at x2
  rw [x0, x1, x2] at x3
  exact sp_all4 x0 x1 x2 x3
theorem sp_b4_15 {nb c : Nat → Nat} : sp_b4 nb c 15 = 15 := by
  have h : ∀ a, a < 4 → sp_b1 nb c 15 a = 15 := by
    intro a ha
    unfold sp_b1
    split
    · rcases sp_lt4 ha with rfl | rfl | rfl | rfl <;> rfl
    · rfl
  unfold sp_b4
  rw [h 0 (by decide), h 1 (by decide), h 2 (by decide), h 3 (by decide)]
theorem sp_bn_of {nb c : Nat → Nat} (hb : ∀ a, a < 4 → nb a < 16) (hn : sp_NoF (sp_E nb) c) : sp_bn nb c = 15 := by
  have grow : ∀ m, m < 16 → m ≠ 15 → sp_cb m < sp_cb (sp_b4 nb c m) := by
    intro m hm hne
    obtain ⟨h1, h2⟩ := sp_b4_fix (nb := nb) (c := c) hm
    rcases Nat.lt_or_ge (sp_cb m) (sp_cb (sp_b4 nb c m)) with q | q
    · exact q
    · exfalso
      have h3 := h2 (Nat.le_antisymm q h1)
      have hex : ∃ a, a < 4 ∧ sp_cF m a = true := by
        have key : ∀ m, m < 16 → m ≠ 15 → ∃ a, a < 4 ∧ sp_cF m a = true := by decide +kernel
        exact key m hm hne
      obtain ⟨a, ha, hFa, hle⟩ := hn (sp_cF m) hex
      rw [← sp_cb_sF (hb a ha) hm] at hle
      have h4 := h3 a ha
      unfold sp_b1 at h4
      rw [if_pos hle] at h4
      have h5 := (sp_or_b m hm a ha).2.2.2.2
      rw [h4] at h5
      simp [sp_cF] at hFa
      omega
  have step : ∀ (n m : Nat), m < 16 → (m = 15 ∨ n ≤ sp_cb m) → sp_b4 nb c m < 16 ∧ (sp_b4 nb c m = 15 ∨ n + 1 ≤ sp_cb (sp_b4 nb c m)) := by
    intro n m hm h
    refine ⟨sp_b4_lt hm, ?_⟩
    by_cases e : m = 15
    · left; rw [e]; exact sp_b4_15
    · have := grow m hm e
      rcases h with h | h
      · exact absurd h e
      · right; omega
  obtain ⟨s1, t1⟩ := step 0 0 (by decide) (Or.inr (Nat.zero_le _))
  obtain ⟨s2, t2⟩ := step _ _ s1 t1
  obtain ⟨s3, t3⟩ := step _ _ s2 t2
  obtain ⟨s4, t4⟩ := step _ _ s3 t3
  unfold sp_bn
  rcases t4 with h | h
  · exact h
  · have := sp_cb4 _ s4
    exact this.2 (by omega)
theorem sp_bn_to {nb c : Nat → Nat} (hb : ∀ a, a < 4 → nb a < 16) (h : sp_bn nb c = 15) : sp_NoF (sp_E nb) c := by
  intro F hF
  refine Classical.byContradiction (fun q => ?_)
  have hf : ∀ a, a < 4 → F a = true → c a < sp_sF (sp_E nb) F a := fun a ha hFa => by
    rcases Nat.lt_or_ge (c a) (sp_sF (sp_E nb) F a) with z | z
    · exact z
    · exact absurd ⟨a, ha, hFa, z⟩ q
  have inv : ∀ m, m < 16 → (∀ a, a < 4 → F a = true → m / 2 ^ a % 2 = 0) → ∀ x, x < 4 → sp_b1 nb c m x < 16 ∧ ∀ a, a < 4 → F a = true → sp_b1 nb c m x / 2 ^ a % 2 = 0 := by
    intro m hm hi x hx
    refine ⟨(sp_b1_ok hm hx).1, fun a ha hFa => ?_⟩
    unfold sp_b1
    split
    · rename_i hle
      by_cases e : a = x
      · subst e
        exfalso
        have h1 := hf a ha hFa
        rw [sp_cb_sF (hb a ha) hm] at hle
        have h2 : sp_sF (sp_E nb) F a ≤ sp_sF (sp_E nb) (sp_cF m) a := by
          simp only [sp_sF]
          have g : ∀ b, b < 4 → (if F b = true then sp_E nb a b else 0) ≤ (if sp_cF m b = true then sp_E nb a b else 0) := by
            intro b hb4
            by_cases eF : F b = true
            · have := hi b hb4 eF
              simp [eF, sp_cF, this]
            · simp [eF]
          exact Nat.add_le_add (Nat.add_le_add (Nat.add_le_add (g 0 (by omega)) (g 1 (by omega))) (g 2 (by omega))) (g 3 (by omega))
        omega
      · rw [(sp_or_b m hm x hx).2.2.2.1 a ha e]
        exact hi a ha hFa
    · exact hi a ha hFa
  have inv4 : ∀ m, m < 16 → (∀ a, a < 4 → F a = true → m / 2 ^ a % 2 = 0) → sp_b4 nb c m < 16 ∧ ∀ a, a < 4 → F a = true → sp_b4 nb c m / 2 ^ a % 2 = 0 := by
    intro m hm hi
    obtain ⟨a1, a2⟩ := inv m hm hi 0 (by decide)
    obtain ⟨b1, b2⟩ := inv _ a1 a2 1 (by decide)
    obtain ⟨c1, c2⟩ := inv _ b1 b2 2 (by decide)
    exact inv _ c1 c2 3 (by decide)
  obtain ⟨a1, a2⟩ := inv4 0 (by decide) (fun a _ _ => by simp)
  obtain ⟨b1, b2⟩ := inv4 _ a1 a2
  obtain ⟨c1, c2⟩ := inv4 _ b1 b2
  obtain ⟨d1, d2⟩ := inv4 _ c1 c2
  obtain ⟨a, ha, hFa⟩ := hF
  have := d2 a ha hFa
  change sp_bn nb c / 2 ^ a % 2 = 0 at this
  rw [h] at this
  rcases sp_lt4 ha with rfl | rfl | rfl | rfl <;> simp at this
end
section
/-! pure: the settled pile as a function; sum, neutral, opposite, order -/
noncomputable def sp_st (E : Nat → Nat → Nat) (sk c : Nat → Nat) : Nat → Nat := @dite (Nat → Nat) (∃ d l, sp_Leg E sk l c d ∧ sp_Sb E sk d) (Classical.propDecidable _) (fun h => Classical.choose h) (fun _ => c)
noncomputable def sp_ct (E : Nat → Nat → Nat) (sk c : Nat → Nat) : Nat := @dite Nat (∃ n d l, sp_Leg E sk l c d ∧ sp_Sb E sk d ∧ l.length = n) (Classical.propDecidable _) (fun h => Classical.choose h) (fun _ => 0)
theorem sp_st_eq {E : Nat → Nat → Nat} {sk c d : Nat → Nat} {l : List Nat} (h : sp_Leg E sk l c d) (hd : sp_Sb E sk d) : ∀ k, k < 4 → sp_st E sk c k = d k := by
  have hex : ∃ d l, sp_Leg E sk l c d ∧ sp_Sb E sk d := ⟨d, l, h, hd⟩
  intro k hk
  unfold sp_st
  rw [dif_pos hex]
  obtain ⟨l', h1, h2⟩ := Classical.choose_spec hex
  exact (sp_uni h1 h2 h hd).2 k hk
theorem sp_ct_eq {E : Nat → Nat → Nat} {sk c d : Nat → Nat} {l : List Nat} (h : sp_Leg E sk l c d) (hd : sp_Sb E sk d) : sp_ct E sk c = l.length := by
  have hex : ∃ n d l, sp_Leg E sk l c d ∧ sp_Sb E sk d ∧ l.length = n := ⟨_, d, l, h, hd, rfl⟩
  unfold sp_ct
  rw [dif_pos hex]
  obtain ⟨d', l', h1, h2, h3⟩ := Classical.choose_spec hex
  rw [← h3]
  exact (sp_uni h1 h2 h hd).1
theorem sp_st_spec {E : Nat → Nat → Nat} {sk : Nat → Nat} (hG : sp_G E sk) (c : Nat → Nat) : ∃ l, sp_Leg E sk l c (sp_st E sk c) ∧ sp_Sb E sk (sp_st E sk c) := by
  obtain ⟨l, d, h1, h2⟩ := sp_ex hG _ c (Nat.le_refl _)
  have e := sp_st_eq h1 h2
  exact ⟨l, sp_Leg_cr l (fun k hk => (e k hk).symm) h1, fun k hk => by rw [e k hk]; exact h2 k hk⟩
theorem sp_st_c {E : Nat → Nat → Nat} {sk : Nat → Nat} (hG : sp_G E sk) {c c' : Nat → Nat} (h : ∀ k, k < 4 → c k = c' k) : ∀ k, k < 4 → sp_st E sk c k = sp_st E sk c' k := by
  obtain ⟨l, h1, h2⟩ := sp_st_spec hG c
  intro k hk
  exact (sp_st_eq (sp_Leg_cl l h h1) h2 k hk).symm
theorem sp_ct_c {E : Nat → Nat → Nat} {sk : Nat → Nat} (hG : sp_G E sk) {c c' : Nat → Nat} (h : ∀ k, k < 4 → c k = c' k) : sp_ct E sk c = sp_ct E sk c' := by
  obtain ⟨l, h1, h2⟩ := sp_st_spec hG c
  rw [sp_ct_eq h1 h2, sp_ct_eq (sp_Leg_cl l h h1) h2]
/-- the settled pile, packed -/
noncomputable def sp_sp (nb sk c : Nat → Nat) : Nat := sp_pk (sp_st (sp_E nb) sk c)
/-- less than full -/
def sp_fl (nb sk : Nat → Nat) : Nat → Nat := fun k => sp_dg (sp_E nb) sk k - 1
noncomputable def sp_ad (nb sk : Nat → Nat) (p q : Nat) : Nat := sp_sp nb sk (fun k => sp_dt p k + sp_dt q k)
noncomputable def sp_ne (nb sk : Nat → Nat) : Nat := sp_sp nb sk (fun k => 2 * sp_fl nb sk k - sp_dt (sp_sp nb sk (fun k => 2 * sp_fl nb sk k)) k)
noncomputable def sp_op (nb sk : Nat → Nat) (s : Nat) : Nat := sp_sp nb sk (fun k => 4 * sp_fl nb sk k - sp_dt (sp_sp nb sk (fun k => 4 * sp_fl nb sk k)) k - sp_dt s k + sp_dt (sp_ne nb sk) k)
abbrev sp_RecS (nb sk : Nat → Nat) (s : Nat) : Prop := sp_Rec (sp_E nb) sk (sp_dt s)
abbrev sp_SbS (nb sk : Nat → Nat) (s : Nat) : Prop := sp_Sb (sp_E nb) sk (sp_dt s)
abbrev sp_LaK (nb sk : Nat → Nat) (s t : Nat) : Prop := sp_La (sp_E nb) sk (fun k => (t : Int) * (sp_dt s k : Int))
section SD
variable {nb sk : Nat → Nat}
theorem sp_st8 (h : sp_Ok nb sk) (c : Nat → Nat) : ∀ k, k < 4 → sp_st (sp_E nb) sk c k < 8 := by
  obtain ⟨l, h1, h2⟩ := sp_st_spec h.G c
  intro k hk
  have := h2 k hk
  have := h.dg5 k hk
  omega
theorem sp_sp_lt (h : sp_Ok nb sk) (c : Nat → Nat) : sp_sp nb sk c < 4096 := sp_pk_lt (sp_st8 h c)
theorem sp_sp_dt (h : sp_Ok nb sk) (c : Nat → Nat) : ∀ k, k < 4 → sp_dt (sp_sp nb sk c) k = sp_st (sp_E nb) sk c k := sp_dt_pk (sp_st8 h c)
theorem sp_sp_c (h : sp_Ok nb sk) {c c' : Nat → Nat} (e : ∀ k, k < 4 → c k = c' k) : sp_sp nb sk c = sp_sp nb sk c' := sp_pk_c (sp_st_c h.G e)
theorem sp_sp_eq {c d : Nat → Nat} {l : List Nat} (h : sp_Leg (sp_E nb) sk l c d) (hd : sp_Sb (sp_E nb) sk d) : sp_sp nb sk c = sp_pk d := sp_pk_c (sp_st_eq h hd)
theorem sp_sp_leg (h : sp_Ok nb sk) (c : Nat → Nat) : ∃ l, sp_Leg (sp_E nb) sk l c (sp_dt (sp_sp nb sk c)) ∧ sp_SbS nb sk (sp_sp nb sk c) := by
  obtain ⟨l, h1, h2⟩ := sp_st_spec h.G c
  have e := sp_sp_dt h c
  exact ⟨l, sp_Leg_cr l (fun k hk => (e k hk).symm) h1, fun k hk => by rw [e k hk]; exact h2 k hk⟩
theorem sp_sp_La (h : sp_Ok nb sk) (c : Nat → Nat) : sp_La (sp_E nb) sk (fun k => (sp_dt (sp_sp nb sk c) k : Int) - (c k : Int)) := by
  obtain ⟨l, h1, -⟩ := sp_sp_leg h c
  exact sp_La_Leg h1
theorem sp_sp_Rec (h : sp_Ok nb sk) {c : Nat → Nat} (hc : sp_NoF (sp_E nb) c) : sp_RecS nb sk (sp_sp nb sk c) := by
  obtain ⟨l, h1, h2⟩ := sp_sp_leg h c
  exact ⟨h2, sp_NoF_Leg h.G l h1 hc⟩
theorem sp_sp_id {s : Nat} (hs : s < 4096) (h : sp_SbS nb sk s) : sp_sp nb sk (sp_dt s) = s := by
  rw [sp_sp_eq (l := []) (fun _ _ => rfl) h, sp_pk_dt hs]
theorem sp_RecS.uni (h : sp_Ok nb sk) {s t : Nat} (hs : s < 4096) (ht : t < 4096) (h1 : sp_RecS nb sk s) (h2 : sp_RecS nb sk t) (h3 : sp_La (sp_E nb) sk (fun k => (sp_dt s k : Int) - (sp_dt t k : Int))) : s = t :=
  sp_dt_inj hs ht (sp_coset h.G (fun a b _ _ => sp_E1 nb a b) h1 h2 h3)
theorem sp_ad_lt (h : sp_Ok nb sk) (p q : Nat) : sp_ad nb sk p q < 4096 := sp_sp_lt h _
theorem sp_ad_comm (p q : Nat) : sp_ad nb sk p q = sp_ad nb sk q p := by
  unfold sp_ad
  congr 1
  funext k
  omega
theorem sp_ad_Rec (h : sp_Ok nb sk) {p q : Nat} (hp : sp_RecS nb sk p) : sp_RecS nb sk (sp_ad nb sk p q) := sp_sp_Rec h (sp_NoF_mono hp.2 (fun _ _ => Nat.le_add_right _ _))
theorem sp_ad_La (h : sp_Ok nb sk) (p q : Nat) : sp_La (sp_E nb) sk (fun k => (sp_dt (sp_ad nb sk p q) k : Int) - ((sp_dt p k : Int) + (sp_dt q k : Int))) :=
  sp_La_c (sp_sp_La h (fun k => sp_dt p k + sp_dt q k)) (fun k _ => by simp [sp_ad])
theorem sp_fl8 (h : sp_Ok nb sk) : ∀ k, k < 4 → sp_fl nb sk k < 8 := fun k hk => by have := h.dg5 k hk; simp only [sp_fl]; omega
theorem sp_fl_Rec (h : sp_Ok nb sk) : sp_RecS nb sk (sp_pk (sp_fl nb sk)) := by
  have e := sp_dt_pk (sp_fl8 h)
  have h1 := h.dg1
  refine ⟨fun k hk => ?_, sp_NoF_full h.G (fun k hk => ?_)⟩
  · rw [e k hk]; have := h1 k hk; simp only [sp_fl]; omega
  · rw [e k hk]; have := h1 k hk; simp only [sp_fl]; omega
theorem sp_ne_lt (h : sp_Ok nb sk) : sp_ne nb sk < 4096 := sp_sp_lt h _
/-- a settled pile has at most a full pile's grains -/
theorem sp_dt_fl (h : sp_Ok nb sk) {s : Nat} (hs : sp_SbS nb sk s) : ∀ k, k < 4 → sp_dt s k ≤ sp_fl nb sk k := fun k hk => by have := hs k hk; simp only [sp_fl]; omega
theorem sp_ne_Rec (h : sp_Ok nb sk) : sp_RecS nb sk (sp_ne nb sk) := by
  obtain ⟨l, -, h2⟩ := sp_sp_leg h (fun k => 2 * sp_fl nb sk k)
  refine sp_sp_Rec h (sp_NoF_full h.G (fun k hk => ?_))
  have h3 := sp_dt_fl h h2 k hk
  have := h.dg1 k hk
  have e : sp_fl nb sk k = sp_dg (sp_E nb) sk k - 1 := rfl
  omega
theorem sp_ne_La (h : sp_Ok nb sk) : sp_La (sp_E nb) sk (fun k => (sp_dt (sp_ne nb sk) k : Int)) := by
  obtain ⟨l, -, h2⟩ := sp_sp_leg h (fun k => 2 * sp_fl nb sk k)
  have a := sp_sp_La h (fun k => 2 * sp_fl nb sk k)
  have b := sp_sp_La h (fun k => 2 * sp_fl nb sk k - sp_dt (sp_sp nb sk (fun k => 2 * sp_fl nb sk k)) k)
  refine sp_La_c (sp_La_add b (sp_La_neg a)) (fun k hk => ?_)
  have h3 := sp_dt_fl h h2 k hk
  change (sp_dt (sp_ne nb sk) k : Int) - _ + _ = _
  omega
theorem sp_op_lt (h : sp_Ok nb sk) (s : Nat) : sp_op nb sk s < 4096 := sp_sp_lt h _
theorem sp_op_Rec (h : sp_Ok nb sk) {s : Nat} (hs : sp_SbS nb sk s) : sp_RecS nb sk (sp_op nb sk s) := by
  obtain ⟨l, -, h2⟩ := sp_sp_leg h (fun k => 4 * sp_fl nb sk k)
  refine sp_sp_Rec h (sp_NoF_full h.G (fun k hk => ?_))
  have h3 := sp_dt_fl h h2 k hk
  have h4 := sp_dt_fl h hs k hk
  have := h.dg1 k hk
  have e : sp_fl nb sk k = sp_dg (sp_E nb) sk k - 1 := rfl
  omega
theorem sp_op_La (h : sp_Ok nb sk) {s : Nat} (hs : sp_SbS nb sk s) : sp_La (sp_E nb) sk (fun k => (sp_dt (sp_op nb sk s) k : Int) + (sp_dt s k : Int)) := by
  obtain ⟨l, -, h2⟩ := sp_sp_leg h (fun k => 4 * sp_fl nb sk k)
  have a := sp_sp_La h (fun k => 4 * sp_fl nb sk k)
  have b := sp_sp_La h (fun k => 4 * sp_fl nb sk k - sp_dt (sp_sp nb sk (fun k => 4 * sp_fl nb sk k)) k - sp_dt s k + sp_dt (sp_ne nb sk) k)
  refine sp_La_c (sp_La_add (sp_La_add b (sp_La_neg a)) (sp_ne_La h)) (fun k hk => ?_)
  have h3 := sp_dt_fl h h2 k hk
  have h4 := sp_dt_fl h hs k hk
  change (sp_dt (sp_op nb sk s) k : Int) - _ + _ + _ = _
  omega
/-- the neutral state, found by looking for it -/
theorem sp_ne_iff (h : sp_Ok nb sk) {s : Nat} (hs : s < 4096) (hr : sp_RecS nb sk s) : sp_ad nb sk s (sp_pk (sp_fl nb sk)) = sp_pk (sp_fl nb sk) ↔ s = sp_ne nb sk := by
  have a := sp_ad_La h s (sp_pk (sp_fl nb sk))
  constructor
  · intro e
    rw [e] at a
    refine sp_RecS.uni h hs (sp_ne_lt h) hr (sp_ne_Rec h) (sp_La_c (sp_La_add (sp_La_neg a) (sp_La_neg (sp_ne_La h))) (fun k _ => by omega))
  · intro e
    subst e
    refine sp_RecS.uni h (sp_ad_lt h _ _) (sp_pk_lt (sp_fl8 h)) (sp_ad_Rec h hr) (sp_fl_Rec h) (sp_La_c (sp_La_add a (sp_ne_La h)) (fun k _ => by omega))
theorem sp_op_iff (h : sp_Ok nb sk) {s o : Nat} (hs : sp_RecS nb sk s) (ho : o < 4096) (hr : sp_RecS nb sk o) : sp_ad nb sk s o = sp_ne nb sk ↔ o = sp_op nb sk s := by
  have a := sp_ad_La h s o
  constructor
  · intro e
    rw [e] at a
    refine sp_RecS.uni h ho (sp_op_lt h s) hr (sp_op_Rec h hs.1) (sp_La_c (sp_La_add (sp_La_add (sp_La_neg a) (sp_ne_La h)) (sp_La_neg (sp_op_La h hs.1))) (fun k _ => by omega))
  · intro e
    subst e
    refine sp_RecS.uni h (sp_ad_lt h _ _) (sp_ne_lt h) (sp_ad_Rec h hs) (sp_ne_Rec h) (sp_La_c (sp_La_add (sp_La_add a (sp_op_La h hs.1)) (sp_La_neg (sp_ne_La h))) (fun k _ => by omega))
/-- t times a state, as the component has it -/
noncomputable def sp_tm (nb sk : Nat → Nat) (s t : Nat) : Nat := sp_ad nb sk (sp_sp nb sk (fun k => t * sp_dt s k)) (sp_ne nb sk)
theorem sp_tm_iff (h : sp_Ok nb sk) (s t : Nat) : sp_tm nb sk s t = sp_ne nb sk ↔ sp_LaK nb sk s t := by
  have a := sp_ad_La h (sp_sp nb sk (fun k => t * sp_dt s k)) (sp_ne nb sk)
  have b := sp_sp_La h (fun k => t * sp_dt s k)
  have n := sp_ne_La h
  constructor
  · intro e
    unfold sp_tm at e
    rw [e] at a
    exact sp_La_c (sp_La_add (sp_La_neg a) (sp_La_neg b)) (fun k _ => by simp; omega)
  · intro e
    refine sp_RecS.uni h (sp_ad_lt h _ _) (sp_ne_lt h) (by unfold sp_tm; rw [sp_ad_comm]; exact sp_ad_Rec h (sp_ne_Rec h)) (sp_ne_Rec h) (sp_La_c (sp_La_add (sp_La_add a b) e) (fun k _ => by simp [sp_tm]; omega))
/-- the multiples of a state, as the reference has them -/
noncomputable def sp_it (nb sk : Nat → Nat) (s : Nat) : Nat → Nat
  | 0 => s
  | k + 1 => sp_ad nb sk (sp_it nb sk s k) s
theorem sp_it_ok (h : sp_Ok nb sk) {s : Nat} (hs : s < 4096) (hr : sp_RecS nb sk s) : ∀ k, sp_it nb sk s k < 4096 ∧ sp_RecS nb sk (sp_it nb sk s k) ∧ sp_La (sp_E nb) sk (fun j => (sp_dt (sp_it nb sk s k) j : Int) - ((k + 1 : Nat) : Int) * (sp_dt s j : Int)) := by
  intro k
  induction k with
  | zero => exact ⟨hs, hr, sp_La_c sp_La_0 (fun k _ => by simp [sp_it])⟩
  | succ k ih =>
    refine ⟨sp_ad_lt h _ _, sp_ad_Rec h ih.2.1, sp_La_c (sp_La_add (sp_ad_La h (sp_it nb sk s k) s) ih.2.2) (fun j _ => ?_)⟩
    have e : ((k + 1 + 1 : Nat) : Int) * (sp_dt s j : Int) = ((k + 1 : Nat) : Int) * (sp_dt s j : Int) + (sp_dt s j : Int) := by
      rw [Int.natCast_add (k + 1) 1, Int.add_mul]; simp
    rw [e]
    simp only [sp_it]
    omega
theorem sp_it_iff (h : sp_Ok nb sk) {s : Nat} (hs : s < 4096) (hr : sp_RecS nb sk s) (k : Nat) : sp_it nb sk s k = sp_ne nb sk ↔ sp_LaK nb sk s (k + 1) := by
  obtain ⟨a1, a2, a3⟩ := sp_it_ok h hs hr k
  constructor
  · intro e
    rw [e] at a3
    exact sp_La_c (sp_La_add (sp_La_neg a3) (sp_ne_La h)) (fun j _ => by omega)
  · intro e
    exact sp_RecS.uni h a1 (sp_ne_lt h) a2 (sp_ne_Rec h) (sp_La_c (sp_La_add (sp_La_add a3 e) (sp_La_neg (sp_ne_La h))) (fun j _ => by omega))
end SD
end
section
set_option maxRecDepth 100000
/-! pure: the determinant kills every pile; orders -/
def sp_dP (d0 d1 d2 d3 a b c d e f : Int) : Int := d0 * d1 * d2 * d3 - a * a * d2 * d3 - b * b * d1 * d3 - c * c * d1 * d2 - d * d * d0 * d3 - e * e * d0 * d2 - f * f * d0 * d1 + a * a * f * f + b * b * e * e + c * c * d * d - 2 * (a * b * d * d3 + a * c * e * d2 + b * c * f * d1 + d * e * f * d0) - 2 * (a * d * f * c + a * e * f * b + b * d * e * c)
def sp_z0 (d0 d1 d2 d3 a b c d e f : Int) (x0 x1 x2 x3 : Int) : Int := -(((d1 * (d2 * d3 - (-f) * (-f)) - (-d) * ((-d) * d3 - (-f) * (-e)) + (-e) * ((-d) * (-f) - d2 * (-e)))) * x0 + (-((-a) * (d2 * d3 - (-f) * (-f)) - (-b) * ((-d) * d3 - (-f) * (-e)) + (-c) * ((-d) * (-f) - d2 * (-e)))) * x1 + (((-a) * ((-d) * d3 - (-e) * (-f)) - (-b) * (d1 * d3 - (-e) * (-e)) + (-c) * (d1 * (-f) - (-d) * (-e)))) * x2 + (-((-a) * ((-d) * (-f) - (-e) * d2) - (-b) * (d1 * (-f) - (-e) * (-d)) + (-c) * (d1 * d2 - (-d) * (-d)))) * x3)
def sp_z1 (d0 d1 d2 d3 a b c d e f : Int) (x0 x1 x2 x3 : Int) : Int := -((-((-a) * (d2 * d3 - (-f) * (-f)) - (-d) * ((-b) * d3 - (-f) * (-c)) + (-e) * ((-b) * (-f) - d2 * (-c)))) * x0 + ((d0 * (d2 * d3 - (-f) * (-f)) - (-b) * ((-b) * d3 - (-f) * (-c)) + (-c) * ((-b) * (-f) - d2 * (-c)))) * x1 + (-(d0 * ((-d) * d3 - (-e) * (-f)) - (-b) * ((-a) * d3 - (-e) * (-c)) + (-c) * ((-a) * (-f) - (-d) * (-c)))) * x2 + ((d0 * ((-d) * (-f) - (-e) * d2) - (-b) * ((-a) * (-f) - (-e) * (-b)) + (-c) * ((-a) * d2 - (-d) * (-b)))) * x3)
def sp_z2 (d0 d1 d2 d3 a b c d e f : Int) (x0 x1 x2 x3 : Int) : Int := -((((-a) * ((-d) * d3 - (-f) * (-e)) - d1 * ((-b) * d3 - (-f) * (-c)) + (-e) * ((-b) * (-e) - (-d) * (-c)))) * x0 + (-(d0 * ((-d) * d3 - (-f) * (-e)) - (-a) * ((-b) * d3 - (-f) * (-c)) + (-c) * ((-b) * (-e) - (-d) * (-c)))) * x1 + ((d0 * (d1 * d3 - (-e) * (-e)) - (-a) * ((-a) * d3 - (-e) * (-c)) + (-c) * ((-a) * (-e) - d1 * (-c)))) * x2 + (-(d0 * (d1 * (-f) - (-e) * (-d)) - (-a) * ((-a) * (-f) - (-e) * (-b)) + (-c) * ((-a) * (-d) - d1 * (-b)))) * x3)
def sp_z3 (d0 d1 d2 d3 a b c d e f : Int) (x0 x1 x2 x3 : Int) : Int := -((-((-a) * ((-d) * (-f) - d2 * (-e)) - d1 * ((-b) * (-f) - d2 * (-c)) + (-d) * ((-b) * (-e) - (-d) * (-c)))) * x0 + ((d0 * ((-d) * (-f) - d2 * (-e)) - (-a) * ((-b) * (-f) - d2 * (-c)) + (-b) * ((-b) * (-e) - (-d) * (-c)))) * x1 + (-(d0 * (d1 * (-f) - (-d) * (-e)) - (-a) * ((-a) * (-f) - (-d) * (-c)) + (-b) * ((-a) * (-e) - d1 * (-c)))) * x2 + ((d0 * (d1 * d2 - (-d) * (-d)) - (-a) * ((-a) * d2 - (-d) * (-b)) + (-b) * ((-a) * (-d) - d1 * (-b)))) * x3)
theorem sp_adj0 (d0 d1 d2 d3 a b c d e f : Int) (x0 x1 x2 x3 : Int) : sp_dP d0 d1 d2 d3 a b c d e f * x0 = sp_z0 d0 d1 d2 d3 a b c d e f x0 x1 x2 x3 * 0 + sp_z1 d0 d1 d2 d3 a b c d e f x0 x1 x2 x3 * a + sp_z2 d0 d1 d2 d3 a b c d e f x0 x1 x2 x3 * b + sp_z3 d0 d1 d2 d3 a b c d e f x0 x1 x2 x3 * c - sp_z0 d0 d1 d2 d3 a b c d e f x0 x1 x2 x3 * d0 := by
  unfold sp_dP sp_z0 sp_z1 sp_z2 sp_z3
  grind
theorem sp_adj1 (d0 d1 d2 d3 a b c d e f : Int) (x0 x1 x2 x3 : Int) : sp_dP d0 d1 d2 d3 a b c d e f * x1 = sp_z0 d0 d1 d2 d3 a b c d e f x0 x1 x2 x3 * a + sp_z1 d0 d1 d2 d3 a b c d e f x0 x1 x2 x3 * 0 + sp_z2 d0 d1 d2 d3 a b c d e f x0 x1 x2 x3 * d + sp_z3 d0 d1 d2 d3 a b c d e f x0 x1 x2 x3 * e - sp_z1 d0 d1 d2 d3 a b c d e f x0 x1 x2 x3 * d1 := by
  unfold sp_dP sp_z0 sp_z1 sp_z2 sp_z3
  grind
theorem sp_adj2 (d0 d1 d2 d3 a b c d e f : Int) (x0 x1 x2 x3 : Int) : sp_dP d0 d1 d2 d3 a b c d e f * x2 = sp_z0 d0 d1 d2 d3 a b c d e f x0 x1 x2 x3 * b + sp_z1 d0 d1 d2 d3 a b c d e f x0 x1 x2 x3 * d + sp_z2 d0 d1 d2 d3 a b c d e f x0 x1 x2 x3 * 0 + sp_z3 d0 d1 d2 d3 a b c d e f x0 x1 x2 x3 * f - sp_z2 d0 d1 d2 d3 a b c d e f x0 x1 x2 x3 * d2 := by
  unfold sp_dP sp_z0 sp_z1 sp_z2 sp_z3
  grind
theorem sp_adj3 (d0 d1 d2 d3 a b c d e f : Int) (x0 x1 x2 x3 : Int) : sp_dP d0 d1 d2 d3 a b c d e f * x3 = sp_z0 d0 d1 d2 d3 a b c d e f x0 x1 x2 x3 * c + sp_z1 d0 d1 d2 d3 a b c d e f x0 x1 x2 x3 * e + sp_z2 d0 d1 d2 d3 a b c d e f x0 x1 x2 x3 * f + sp_z3 d0 d1 d2 d3 a b c d e f x0 x1 x2 x3 * 0 - sp_z3 d0 d1 d2 d3 a b c d e f x0 x1 x2 x3 * d3 := by
  unfold sp_dP sp_z0 sp_z1 sp_z2 sp_z3
  grind
/-- the determinant of a graph -/
def sp_dI (nb sk : Nat → Nat) : Int := sp_dP (sp_dg (sp_E nb) sk 0) (sp_dg (sp_E nb) sk 1) (sp_dg (sp_E nb) sk 2) (sp_dg (sp_E nb) sk 3) (sp_E nb 0 1) (sp_E nb 0 2) (sp_E nb 0 3) (sp_E nb 1 2) (sp_E nb 1 3) (sp_E nb 2 3)
theorem sp_det_La {nb sk : Nat → Nat} (h : sp_Ok nb sk) (x : Nat → Int) : sp_La (sp_E nb) sk (fun k => sp_dI nb sk * x k) := by
  obtain ⟨z0, e0⟩ : ∃ z, z = sp_z0 (sp_dg (sp_E nb) sk 0) (sp_dg (sp_E nb) sk 1) (sp_dg (sp_E nb) sk 2) (sp_dg (sp_E nb) sk 3) (sp_E nb 0 1) (sp_E nb 0 2) (sp_E nb 0 3) (sp_E nb 1 2) (sp_E nb 1 3) (sp_E nb 2 3) (x 0) (x 1) (x 2) (x 3) := ⟨_, rfl⟩
  obtain ⟨z1, e1⟩ : ∃ z, z = sp_z1 (sp_dg (sp_E nb) sk 0) (sp_dg (sp_E nb) sk 1) (sp_dg (sp_E nb) sk 2) (sp_dg (sp_E nb) sk 3) (sp_E nb 0 1) (sp_E nb 0 2) (sp_E nb 0 3) (sp_E nb 1 2) (sp_E nb 1 3) (sp_E nb 2 3) (x 0) (x 1) (x 2) (x 3) := ⟨_, rfl⟩
  obtain ⟨z2, e2⟩ : ∃ z, z = sp_z2 (sp_dg (sp_E nb) sk 0) (sp_dg (sp_E nb) sk 1) (sp_dg (sp_E nb) sk 2) (sp_dg (sp_E nb) sk 3) (sp_E nb 0 1) (sp_E nb 0 2) (sp_E nb 0 3) (sp_E nb 1 2) (sp_E nb 1 3) (sp_E nb 2 3) (x 0) (x 1) (x 2) (x 3) := ⟨_, rfl⟩
  obtain ⟨z3, e3⟩ : ∃ z, z = sp_z3 (sp_dg (sp_E nb) sk 0) (sp_dg (sp_E nb) sk 1) (sp_dg (sp_E nb) sk 2) (sp_dg (sp_E nb) sk 3) (sp_E nb 0 1) (sp_E nb 0 2) (sp_E nb 0 3) (sp_E nb 1 2) (sp_E nb 1 3) (sp_E nb 2 3) (x 0) (x 1) (x 2) (x 3) := ⟨_, rfl⟩
  refine ⟨fun a => if a = 0 then z0 else if a = 1 then z1 else if a = 2 then z2 else z3, ?_⟩
  have s : ∀ a b, a < 4 → b < 4 → ((sp_E nb a b : Nat) : Int) = ((sp_E nb b a : Nat) : Int) := fun a b ha hb => by rw [h.2 a b ha hb]
  have d0 := (h.1 0 (by decide)).2.2.2
  have d1 := (h.1 1 (by decide)).2.2.2
  have d2 := (h.1 2 (by decide)).2.2.2
  have d3 := (h.1 3 (by decide)).2.2.2
  refine sp_all4 ?_ ?_ ?_ ?_
  · have := sp_adj0 (sp_dg (sp_E nb) sk 0) (sp_dg (sp_E nb) sk 1) (sp_dg (sp_E nb) sk 2) (sp_dg (sp_E nb) sk 3) (sp_E nb 0 1) (sp_E nb 0 2) (sp_E nb 0 3) (sp_E nb 1 2) (sp_E nb 1 3) (sp_E nb 2 3) (x 0) (x 1) (x 2) (x 3)
    rw [← e0, ← e1, ← e2, ← e3] at this
    simp only [sp_dI]
    rw [this, s 1 0 (by decide) (by decide), s 2 0 (by decide) (by decide), s 3 0 (by decide) (by decide), d0]
    simp
  · have := sp_adj1 (sp_dg (sp_E nb) sk 0) (sp_dg (sp_E nb) sk 1) (sp_dg (sp_E nb) sk 2) (sp_dg (sp_E nb) sk 3) (sp_E nb 0 1) (sp_E nb 0 2) (sp_E nb 0 3) (sp_E nb 1 2) (sp_E nb 1 3) (sp_E nb 2 3) (x 0) (x 1) (x 2) (x 3)
    rw [← e0, ← e1, ← e2, ← e3] at this
    simp only [sp_dI]
    rw [this, s 2 1 (by decide) (by decide), s 3 1 (by decide) (by decide), d1]
    simp
  · have := sp_adj2 (sp_dg (sp_E nb) sk 0) (sp_dg (sp_E nb) sk 1) (sp_dg (sp_E nb) sk 2) (sp_dg (sp_E nb) sk 3) (sp_E nb 0 1) (sp_E nb 0 2) (sp_E nb 0 3) (sp_E nb 1 2) (sp_E nb 1 3) (sp_E nb 2 3) (x 0) (x 1) (x 2) (x 3)
    rw [← e0, ← e1, ← e2, ← e3] at this
    simp only [sp_dI]
    rw [this, s 3 2 (by decide) (by decide), d2]
    simp
  · have := sp_adj3 (sp_dg (sp_E nb) sk 0) (sp_dg (sp_E nb) sk 1) (sp_dg (sp_E nb) sk 2) (sp_dg (sp_E nb) sk 3) (sp_E nb 0 1) (sp_E nb 0 2) (sp_E nb 0 3) (sp_E nb 1 2) (sp_E nb 1 3) (sp_E nb 2 3) (x 0) (x 1) (x 2) (x 3)
    rw [← e0, ← e1, ← e2, ← e3] at this
    simp only [sp_dI]
    rw [this, d3]
    simp
/-! the order of a state -/
def sp_Or (nb sk : Nat → Nat) (s r : Nat) : Prop := 1 ≤ r ∧ sp_LaK nb sk s r ∧ ∀ j, 1 ≤ j → j < r → ¬ sp_LaK nb sk s j
noncomputable def sp_or (nb sk : Nat → Nat) (s : Nat) : Nat := @dite Nat (∃ r, sp_Or nb sk s r) (Classical.propDecidable _) (fun h => Classical.choose h) (fun _ => 0)
section SO
variable {nb sk : Nat → Nat} {s : Nat}
theorem sp_Or.uni {r r' : Nat} (h : sp_Or nb sk s r) (h' : sp_Or nb sk s r') : r = r' := by
  rcases Nat.lt_trichotomy r r' with q | q | q
  · exact absurd h.2.1 (h'.2.2 r h.1 q)
  · exact q
  · exact absurd h'.2.1 (h.2.2 r' h'.1 q)
theorem sp_or_eq {r : Nat} (h : sp_Or nb sk s r) : sp_or nb sk s = r := by
  have hex : ∃ r, sp_Or nb sk s r := ⟨r, h⟩
  unfold sp_or
  rw [dif_pos hex]
  exact (Classical.choose_spec hex).uni h
theorem sp_LaK_add {a b : Nat} (ha : sp_LaK nb sk s a) (hb : sp_LaK nb sk s b) : sp_LaK nb sk s (a + b) := sp_La_c (sp_La_add ha hb) (fun k _ => by simp [Int.add_mul])
theorem sp_LaK_mul {a : Nat} (m : Nat) (ha : sp_LaK nb sk s a) : sp_LaK nb sk s (m * a) := sp_La_c (sp_La_mul (m : Int) ha) (fun k _ => by simp [Int.mul_assoc])
theorem sp_LaK_sub {a b : Nat} (ha : sp_LaK nb sk s a) (hb : sp_LaK nb sk s (a + b)) : sp_LaK nb sk s b := sp_La_c (sp_La_add hb (sp_La_neg ha)) (fun k _ => by simp [Int.add_mul]; omega)
theorem sp_Or.dvd {r t : Nat} (h : sp_Or nb sk s r) : sp_LaK nb sk s t ↔ r ∣ t := by
  constructor
  · intro ht
    have e : t = (t / r) * r + t % r := by rw [Nat.mul_comm]; exact (Nat.div_add_mod t r).symm
    rw [e] at ht
    have h1 := sp_LaK_sub (sp_LaK_mul (t / r) h.2.1) ht
    have h2 := Nat.mod_lt t h.1
    rcases Nat.eq_zero_or_pos (t % r) with q | q
    · exact Nat.dvd_of_mod_eq_zero q
    · exact absurd h1 (h.2.2 _ q h2)
  · rintro ⟨m, rfl⟩
    rw [Nat.mul_comm]
    exact sp_LaK_mul m h.2.1
theorem sp_Or.ex {t : Nat} (ht : 1 ≤ t) (h : sp_LaK nb sk s t) : ∃ r, sp_Or nb sk s r := by
  obtain ⟨r, h1, h2⟩ := pk_least (fun k => 1 ≤ k ∧ sp_LaK nb sk s k) ⟨t, ht, h⟩
  exact ⟨r, h1.1, h1.2, fun j hj hlt hl => h2 j hlt ⟨hj, hl⟩⟩
/-- the search for the order by prime factors: what holds at p with result R and rest N -/
def sp_OI (nb sk : Nat → Nat) (s o R N p : Nat) : Prop := sp_Or nb sk s o ∧ 1 ≤ N ∧ 2 ≤ p ∧ N ∣ R ∧ (∃ m, R = o * m ∧ m ∣ N ∧ 1 ≤ m) ∧ ∀ q, 2 ≤ q → q < p → ¬ q ∣ N
theorem sp_OI.end {o R N p : Nat} (h : sp_OI nb sk s o R N p) (hp : N < p) : R = o := by
  obtain ⟨h1, h2, h3, h4, ⟨m, h5, h6, h8⟩, h7⟩ := h
  have : N = 1 := by
    rcases Nat.lt_or_ge N 2 with q | q
    · omega
    · exact absurd (Nat.dvd_refl N) (h7 N q hp)
  subst this
  have : m = 1 := Nat.dvd_one.mp h6
  subst this
  omega
theorem sp_OI.next {o R N p : Nat} (h : sp_OI nb sk s o R N p) (hp : ¬ N % p = 0) : sp_OI nb sk s o R N (p + 1) := by
  obtain ⟨h1, h2, h3, h4, h5, h7⟩ := h
  refine ⟨h1, h2, by omega, h4, h5, fun q hq hlt hd => ?_⟩
  rcases Nat.lt_or_ge q p with z | z
  · exact h7 q hq z hd
  · have : q = p := by omega
    subst this
    exact hp (Nat.mod_eq_zero_of_dvd hd)
theorem sp_OI.div {o R N p : Nat} (h : sp_OI nb sk s o R N p) (hp : N % p = 0) : (sp_LaK nb sk s (R / p) → sp_OI nb sk s o (R / p) (N / p) p) ∧ (¬ sp_LaK nb sk s (R / p) → sp_OI nb sk s o R (N / p) p) ∧ N / p < N ∧ 1 ≤ R / p := by
  obtain ⟨h1, h2, h3, h4, ⟨m, h5, h6, h8⟩, h7⟩ := h
  have hpN : p ∣ N := Nat.dvd_of_mod_eq_zero hp
  have hN : 1 ≤ N / p := Nat.div_pos (Nat.le_of_dvd h2 hpN) (by omega)
  have hno : ∀ q, 2 ≤ q → q < p → ¬ q ∣ N / p := fun q hq hlt hd => h7 q hq hlt (Nat.dvd_trans hd (Nat.div_dvd_of_dvd hpN))
  have hpR : p ∣ R := Nat.dvd_trans hpN h4
  obtain ⟨w, hw⟩ := hpR
  have hwR : R / p = w := by rw [hw]; exact Nat.mul_div_cancel_left w (by omega)
  have ho := h1.1
  have hRpos : 1 ≤ R := by rw [h5]; exact Nat.mul_pos ho h8
  have hiff : sp_LaK nb sk s (R / p) ↔ p ∣ m := by
    rw [h1.dvd, hwR]
    constructor
    · rintro ⟨v, hv⟩
      refine ⟨v, ?_⟩
      rw [hv] at hw
      rw [h5] at hw
      have : o * m = o * (p * v) := by rw [hw]; exact Nat.mul_left_comm p o v
      exact Nat.eq_of_mul_eq_mul_left ho this
    · rintro ⟨v, hv⟩
      refine ⟨v, ?_⟩
      rw [hv] at h5
      rw [h5] at hw
      have : p * w = p * (o * v) := by rw [← hw]; exact Nat.mul_left_comm o p v
      exact Nat.eq_of_mul_eq_mul_left (by omega) this
  refine ⟨fun hL => ?_, fun hL => ?_, Nat.div_lt_self h2 (by omega), ?_⟩
  · obtain ⟨v, hv⟩ := hiff.mp hL
    refine ⟨h1, hN, h3, ?_, ⟨v, ?_, ?_, ?_⟩, hno⟩
    · exact Nat.div_dvd_div hpN h4
    · rw [hv] at h5
      rw [h5] at hw
      rw [hwR]
      have : p * w = p * (o * v) := by rw [← hw]; exact Nat.mul_left_comm o p v
      exact Nat.eq_of_mul_eq_mul_left (by omega) this
    · rw [hv] at h6
      obtain ⟨y, hy⟩ := h6
      refine ⟨y, ?_⟩
      rw [hy, Nat.mul_assoc]
      exact Nat.mul_div_cancel_left _ (by omega)
    · rcases Nat.eq_zero_or_pos v with q | q
      · rw [q] at hv; omega
      · exact q
  · have hpm : ¬ p ∣ m := fun q => hL (hiff.mpr q)
    have hc : Nat.Coprime m p := by
      have g1 : Nat.gcd m p ∣ p := Nat.gcd_dvd_right m p
      have g2 : Nat.gcd m p ∣ m := Nat.gcd_dvd_left m p
      have g3 : 0 < Nat.gcd m p := Nat.gcd_pos_of_pos_left p h8
      have g4 : Nat.gcd m p ≤ p := Nat.le_of_dvd (by omega) g1
      rcases Nat.lt_or_ge (Nat.gcd m p) 2 with q | q
      · show Nat.gcd m p = 1
        omega
      · exfalso
        rcases Nat.lt_or_ge (Nat.gcd m p) p with z | z
        · exact h7 _ q z (Nat.dvd_trans g2 h6)
        · have : Nat.gcd m p = p := Nat.le_antisymm g4 z
          exact hpm (this ▸ g2)
    refine ⟨h1, hN, h3, Nat.dvd_trans (Nat.div_dvd_of_dvd hpN) h4, ⟨m, h5, ?_, h8⟩, hno⟩
    obtain ⟨y, hy⟩ := Nat.Coprime.mul_dvd_of_dvd_of_dvd hc h6 hpN
    refine ⟨y, ?_⟩
    rw [hy, Nat.mul_comm m p, Nat.mul_assoc]
    exact Nat.mul_div_cancel_left _ (by omega)
  · rw [hwR]
    rcases Nat.eq_zero_or_pos w with q | q
    · rw [q] at hw; omega
    · exact q
end SO
end
section
set_option maxRecDepth 100000
/-! pure: how many recurrent states there are: counted by the kernel, graph by graph, against the determinant -/
def sp_bx (n x m p : Nat) : Nat := bif Nat.ble (sp_cb (sp_un n m)) x then Nat.lor m p else m
def sp_by (n0 n1 n2 n3 x0 x1 x2 x3 m : Nat) : Nat := sp_bx n3 x3 (sp_bx n2 x2 (sp_bx n1 x1 (sp_bx n0 x0 m 1) 2) 4) 8
def sp_bz (n0 n1 n2 n3 x0 x1 x2 x3 : Nat) : Nat := bif Nat.beq (sp_by n0 n1 n2 n3 x0 x1 x2 x3 (sp_by n0 n1 n2 n3 x0 x1 x2 x3 (sp_by n0 n1 n2 n3 x0 x1 x2 x3 (sp_by n0 n1 n2 n3 x0 x1 x2 x3 0)))) 15 then 1 else 0
def sp_sm (n : Nat) (f : Nat → Nat) : Nat := Nat.rec (motive := fun _ => Nat) 0 (fun k acc => Nat.add acc (f k)) n
def sp_al (n : Nat) (f : Nat → Bool) : Bool := Nat.rec (motive := fun _ => Bool) true (fun k acc => and acc (f k)) n
def sp_c4 (n0 n1 n2 n3 d0 d1 d2 d3 : Nat) : Nat := sp_sm d0 (fun x0 => sp_sm d1 (fun x1 => sp_sm d2 (fun x2 => sp_sm d3 (fun x3 => sp_bz n0 n1 n2 n3 x0 x1 x2 x3))))
def sp_v4 (n0 n1 n2 n3 : Nat) : Nat → Nat := fun k => if k = 0 then n0 else if k = 1 then n1 else if k = 2 then n2 else n3
/-- one row of the elimination -/
def sp_rd (M : Nat → Int32) (r k : Nat) (b : Int32) : Nat → Int32 := fun j => if 4 * r ≤ j ∧ j < 4 * r + 4 then (M j * M (5 * k) - M (4 * r + k) * M (4 * k + (j - 4 * r))) / b else M j
def sp_m0 (nb sk : Nat → Nat) : Nat → Int32 := fun j => if j / 4 = j % 4 then nI (sp_dg (sp_E nb) sk (j / 4)) else - nI (sp_E nb (j / 4) (j % 4))
def sp_m1 (nb sk : Nat → Nat) : Nat → Int32 := sp_rd (sp_rd (sp_rd (sp_m0 nb sk) 1 0 1) 2 0 1) 3 0 1
def sp_m2 (nb sk : Nat → Nat) : Nat → Int32 := sp_rd (sp_rd (sp_m1 nb sk) 2 1 (sp_m1 nb sk 0)) 3 1 (sp_m1 nb sk 0)
def sp_m3 (nb sk : Nat → Nat) : Nat → Int32 := sp_rd (sp_m2 nb sk) 3 2 (sp_m2 nb sk 5)
def sp_ckg (n0 n1 n2 n3 s0 s1 s2 s3 : Nat) : Bool :=
  (fun (nb sk : Nat → Nat) => (fun cnt : Nat => and (decide (sp_dI nb sk = (cnt : Int))) (and (decide (sp_m3 nb sk 15 = nI cnt)) (and (decide (¬ sp_m1 nb sk 0 = 0)) (and (decide (¬ sp_m2 nb sk 5 = 0)) (Nat.ble 1 cnt))))) (sp_c4 n0 n1 n2 n3 (sp_dg (sp_E nb) sk 0) (sp_dg (sp_E nb) sk 1) (sp_dg (sp_E nb) sk 2) (sp_dg (sp_E nb) sk 3))) (sp_v4 n0 n1 n2 n3) (sp_v4 s0 s1 s2 s3)
def sp_cka (a b : Nat) : Bool := sp_al 2 (fun c => sp_al 2 (fun d => sp_al 2 (fun e => sp_al 2 (fun f => sp_al 2 (fun s0 => sp_al 2 (fun s1 => sp_al 2 (fun s2 => sp_al 2 (fun s3 => sp_ckg (2 * a + 4 * b + 8 * c) (a + 4 * d + 8 * e) (b + 2 * d + 8 * f) (c + 2 * e + 4 * f) (s0 + 1) (s1 + 1) (s2 + 1) (s3 + 1)))))))))
theorem sp_ck00 : sp_cka 0 0 = true := by decide +kernel
theorem sp_ck01 : sp_cka 0 1 = true := by decide +kernel
theorem sp_ck10 : sp_cka 1 0 = true := by decide +kernel
theorem sp_ck11 : sp_cka 1 1 = true := by decide +kernel
end
section
set_option maxRecDepth 100000
/-! pure: the count of recurrent states is the determinant, for every graph -/
theorem sp_al_of {f : Nat → Bool} : ∀ {n : Nat}, sp_al n f = true → ∀ k, k < n → f k = true := by
  intro n
  induction n with
  | zero => intro h k hk; omega
  | succ n ih =>
    intro h k hk
    have h : (sp_al n f && f n) = true := h
    rw [Bool.and_eq_true] at h
    rcases Nat.lt_or_ge k n with q | q
    · exact ih h.1 k q
    · have : k = n := by omega
      rw [this]; exact h.2
theorem sp_ckg_of {a b c d e f s0 s1 s2 s3 : Nat} (ha : a < 2) (hb : b < 2) (hc : c < 2) (hd : d < 2) (he : e < 2) (hf : f < 2) (h0 : s0 < 2) (h1 : s1 < 2) (h2 : s2 < 2) (h3 : s3 < 2) : sp_ckg (2 * a + 4 * b + 8 * c) (a + 4 * d + 8 * e) (b + 2 * d + 8 * f) (c + 2 * e + 4 * f) (s0 + 1) (s1 + 1) (s2 + 1) (s3 + 1) = true := by
  have g : sp_cka a b = true := by
    have ea : a = 0 ∨ a = 1 := by omega
    have eb : b = 0 ∨ b = 1 := by omega
    rcases ea with rfl | rfl <;> rcases eb with rfl | rfl
    · exact sp_ck00
    · exact sp_ck01
    · exact sp_ck10
    · exact sp_ck11
  unfold sp_cka at g
  exact sp_al_of (sp_al_of (sp_al_of (sp_al_of (sp_al_of (sp_al_of (sp_al_of (sp_al_of g c hc) d hd) e he) f hf) s0 h0) s1 h1) s2 h2) s3 h3
/-- what was counted, for a graph that is well formed -/
theorem sp_ckg_ok {nb sk : Nat → Nat} (h : sp_Ok nb sk) : sp_ckg (nb 0) (nb 1) (nb 2) (nb 3) (sk 0) (sk 1) (sk 2) (sk 3) = true := by
  obtain ⟨b0, l0, u0, z0⟩ := h.1 0 (by decide)
  obtain ⟨b1, l1, u1, z1⟩ := h.1 1 (by decide)
  obtain ⟨b2, l2, u2, z2⟩ := h.1 2 (by decide)
  obtain ⟨b3, l3, u3, z3⟩ := h.1 3 (by decide)
  have e01 := h.2 0 1 (by decide) (by decide)
  have e02 := h.2 0 2 (by decide) (by decide)
  have e03 := h.2 0 3 (by decide) (by decide)
  have e12 := h.2 1 2 (by decide) (by decide)
  have e13 := h.2 1 3 (by decide) (by decide)
  have e23 := h.2 2 3 (by decide) (by decide)
  have t01 := sp_E1 nb 0 1
  have t02 := sp_E1 nb 0 2
  have t03 := sp_E1 nb 0 3
  have t12 := sp_E1 nb 1 2
  have t13 := sp_E1 nb 1 3
  have t23 := sp_E1 nb 2 3
  have key := sp_ckg_of (a := sp_E nb 0 1) (b := sp_E nb 0 2) (c := sp_E nb 0 3) (d := sp_E nb 1 2) (e := sp_E nb 1 3) (f := sp_E nb 2 3) (s0 := sk 0 - 1) (s1 := sk 1 - 1) (s2 := sk 2 - 1) (s3 := sk 3 - 1) (by omega) (by omega) (by omega) (by omega) (by omega) (by omega) (by omega) (by omega) (by omega) (by omega)
  have n0 : 2 * sp_E nb 0 1 + 4 * sp_E nb 0 2 + 8 * sp_E nb 0 3 = nb 0 := by simp only [sp_E] at z0 ⊢; omega
  have n1 : sp_E nb 0 1 + 4 * sp_E nb 1 2 + 8 * sp_E nb 1 3 = nb 1 := by rw [e01]; simp only [sp_E] at z1 ⊢; omega
  have n2 : sp_E nb 0 2 + 2 * sp_E nb 1 2 + 8 * sp_E nb 2 3 = nb 2 := by rw [e02, e12]; simp only [sp_E] at z2 ⊢; omega
  have n3 : sp_E nb 0 3 + 2 * sp_E nb 1 3 + 4 * sp_E nb 2 3 = nb 3 := by rw [e03, e13, e23]; simp only [sp_E] at z3 ⊢; omega
  rw [n0, n1, n2, n3, Nat.sub_add_cancel l0, Nat.sub_add_cancel l1, Nat.sub_add_cancel l2, Nat.sub_add_cancel l3] at key
  exact key
/-- the test of a packed state -/
def sp_rB (nb sk : Nat → Nat) (s : Nat) : Bool := decide (sp_dt s 0 < sp_dg (sp_E nb) sk 0 ∧ sp_dt s 1 < sp_dg (sp_E nb) sk 1 ∧ sp_dt s 2 < sp_dg (sp_E nb) sk 2 ∧ sp_dt s 3 < sp_dg (sp_E nb) sk 3 ∧ sp_bn nb (sp_dt s) = 15)
theorem sp_rB_iff {nb sk : Nat → Nat} (h : sp_Ok nb sk) (s : Nat) : sp_rB nb sk s = true ↔ sp_RecS nb sk s := by
  unfold sp_rB
  rw [decide_eq_true_eq]
  constructor
  · rintro ⟨a0, a1, a2, a3, a4⟩
    exact ⟨sp_all4 a0 a1 a2 a3, sp_bn_to (fun a ha => (h.1 a ha).1) a4⟩
  · rintro ⟨a, b⟩
    exact ⟨a 0 (by decide), a 1 (by decide), a 2 (by decide), a 3 (by decide), sp_bn_of (fun a ha => (h.1 a ha).1) b⟩
def sp_cn (nb sk : Nat → Nat) : Nat := sp_sm 4096 (fun s => if sp_rB nb sk s = true then 1 else 0)
theorem sp_sm_s (n : Nat) (f : Nat → Nat) : sp_sm (n + 1) f = sp_sm n f + f n := rfl
theorem sp_sm_c {f g : Nat → Nat} : ∀ {n : Nat}, (∀ k, k < n → f k = g k) → sp_sm n f = sp_sm n g := by
  intro n
  induction n with
  | zero => intro _; rfl
  | succ n ih =>
    intro h
    rw [sp_sm_s, sp_sm_s, ih (fun k hk => h k (by omega)), h n (by omega)]
theorem sp_sm_8 (f : Nat → Nat) : ∀ n : Nat, sp_sm (8 * n) f = sp_sm n (fun x => sp_sm 8 (fun y => f (8 * x + y))) := by
  intro n
  induction n with
  | zero => rfl
  | succ n ih =>
    rw [sp_sm_s, ← ih, show 8 * (n + 1) = 8 * n + 1 + 1 + 1 + 1 + 1 + 1 + 1 + 1 by omega]
    simp only [sp_sm_s]
    show _ = _ + (0 + f (8 * n + 0) + f (8 * n + 1) + f (8 * n + 2) + f (8 * n + 3) + f (8 * n + 4) + f (8 * n + 5) + f (8 * n + 6) + f (8 * n + 7))
    simp only [Nat.add_assoc, Nat.zero_add, Nat.add_zero, Nat.reduceAdd]
theorem sp_sm_cut {f : Nat → Nat} {d : Nat} (h : ∀ x, d ≤ x → f x = 0) : ∀ n : Nat, d ≤ n → sp_sm n f = sp_sm d f := by
  intro n
  induction n with
  | zero => intro hd; rw [Nat.le_zero.mp hd]
  | succ n ih =>
    intro hd
    rcases Nat.lt_or_ge n d with q | q
    · rw [show d = n + 1 by omega]
    · rw [sp_sm_s, ih q, h n q, Nat.add_zero]
theorem sp_b1_bx (nb c : Nat → Nat) (m a : Nat) : sp_b1 nb c m a = sp_bx (nb a) (c a) m (2 ^ a) := by
  unfold sp_b1 sp_bx
  by_cases h : sp_cb (sp_un (nb a) m) ≤ c a
  · rw [if_pos h, Nat.ble_eq_true_of_le h]; rfl
  · rw [if_neg h]
    have : Nat.ble (sp_cb (sp_un (nb a) m)) (c a) = false := by
      cases e : Nat.ble (sp_cb (sp_un (nb a) m)) (c a) with
      | false => rfl
      | true => exact absurd (Nat.le_of_ble_eq_true e) h
    rw [this]; rfl
theorem sp_b4_by (nb c : Nat → Nat) (m : Nat) : sp_b4 nb c m = sp_by (nb 0) (nb 1) (nb 2) (nb 3) (c 0) (c 1) (c 2) (c 3) m := by
  unfold sp_b4 sp_by
  rw [sp_b1_bx, sp_b1_bx, sp_b1_bx, sp_b1_bx]
theorem sp_bz_bn (nb c : Nat → Nat) : sp_bz (nb 0) (nb 1) (nb 2) (nb 3) (c 0) (c 1) (c 2) (c 3) = if sp_bn nb c = 15 then 1 else 0 := by
  unfold sp_bn sp_bz
  rw [sp_b4_by, sp_b4_by, sp_b4_by, sp_b4_by]
  split
  · rename_i h; rw [h]; rfl
  · rename_i h
    have : Nat.beq (sp_by (nb 0) (nb 1) (nb 2) (nb 3) (c 0) (c 1) (c 2) (c 3) (sp_by (nb 0) (nb 1) (nb 2) (nb 3) (c 0) (c 1) (c 2) (c 3) (sp_by (nb 0) (nb 1) (nb 2) (nb 3) (c 0) (c 1) (c 2) (c 3) (sp_by (nb 0) (nb 1) (nb 2) (nb 3) (c 0) (c 1) (c 2) (c 3) 0)))) 15 = false := by
      cases e : Nat.beq (sp_by (nb 0) (nb 1) (nb 2) (nb 3) (c 0) (c 1) (c 2) (c 3) (sp_by (nb 0) (nb 1) (nb 2) (nb 3) (c 0) (c 1) (c 2) (c 3) (sp_by (nb 0) (nb 1) (nb 2) (nb 3) (c 0) (c 1) (c 2) (c 3) (sp_by (nb 0) (nb 1) (nb 2) (nb 3) (c 0) (c 1) (c 2) (c 3) 0)))) 15 with
      | false => rfl
      | true => exact absurd (Nat.eq_of_beq_eq_true e) h
    rw [this]; rfl
theorem sp_cn_c4 {nb sk : Nat → Nat} (h : sp_Ok nb sk) : sp_cn nb sk = sp_c4 (nb 0) (nb 1) (nb 2) (nb 3) (sp_dg (sp_E nb) sk 0) (sp_dg (sp_E nb) sk 1) (sp_dg (sp_E nb) sk 2) (sp_dg (sp_E nb) sk 3) := by
  have q0 := h.dg5 0 (by decide)
  have q1 := h.dg5 1 (by decide)
  have q2 := h.dg5 2 (by decide)
  have q3 := h.dg5 3 (by decide)
  unfold sp_cn sp_c4
  rw [show (4096 : Nat) = 8 * 512 by decide, sp_sm_8, show (512 : Nat) = 8 * 64 by decide, sp_sm_8, show (64 : Nat) = 8 * 8 by decide, sp_sm_8]
  have big : ∀ x0 x1 x2 x3, x1 < 8 → x2 < 8 → x3 < 8 → (x0 < 8) → sp_dt (8 * (8 * (8 * x0 + x1) + x2) + x3) 0 = x0 ∧ sp_dt (8 * (8 * (8 * x0 + x1) + x2) + x3) 1 = x1 ∧ sp_dt (8 * (8 * (8 * x0 + x1) + x2) + x3) 2 = x2 ∧ sp_dt (8 * (8 * (8 * x0 + x1) + x2) + x3) 3 = x3 := by
    intro x0 x1 x2 x3 h1 h2 h3 h0
    simp only [sp_dt]
    refine ⟨?_, ?_, ?_, ?_⟩ <;> simp <;> omega
  have sm0 : ∀ {f : Nat → Nat} (n : Nat), (∀ k, k < n → f k = 0) → sp_sm n f = 0 := by
    intro f n hf
    rw [sp_sm_c (g := fun _ => 0) hf]
    clear hf
    induction n with
    | zero => rfl
    | succ n ih => rw [sp_sm_s, ih]
  -- a digit at a time
  have cut : ∀ {f g : Nat → Nat} {d : Nat}, d ≤ 8 → (∀ x, x < d → f x = g x) → (∀ x, d ≤ x → x < 8 → f x = 0) → sp_sm 8 f = sp_sm d g := by
    intro f g d hd h1 h2
    rw [sp_sm_c (g := fun x => if x < d then g x else 0) (fun k hk => by
      by_cases q : k < d
      · rw [if_pos q]; exact h1 k q
      · rw [if_neg q]; exact h2 k (by omega) hk)]
    rw [sp_sm_cut (d := d) (fun x hx => if_neg (by omega)) 8 hd]
    exact sp_sm_c (fun k hk => if_pos hk)
  refine cut (by omega) (fun x0 h0 => cut (by omega) (fun x1 h1 => cut (by omega) (fun x2 h2 => cut (by omega) (fun x3 h3 => ?_) ?_) ?_) ?_) ?_
  · obtain ⟨b0, b1, b2, b3⟩ := big x0 x1 x2 x3 (by omega) (by omega) (by omega) (by omega)
    have e := sp_bz_bn nb (sp_dt (8 * (8 * (8 * x0 + x1) + x2) + x3))
    rw [b0, b1, b2, b3] at e
    rw [e]
    unfold sp_rB
    rw [b0, b1, b2, b3]
    simp [h0, h1, h2, h3]
  · intro x3 h3 h3'
    obtain ⟨b0, b1, b2, b3⟩ := big x0 x1 x2 x3 (by omega) (by omega) (by omega) (by omega)
    unfold sp_rB
    rw [b0, b1, b2, b3, if_neg]
    simp; omega
  · intro x2 h2 h2'
    refine sm0 8 (fun x3 h3 => ?_)
    obtain ⟨b0, b1, b2, b3⟩ := big x0 x1 x2 x3 (by omega) (by omega) (by omega) (by omega)
    unfold sp_rB
    rw [b0, b1, b2, b3, if_neg]
    simp; omega
  · intro x1 h1 h1'
    refine sm0 8 (fun x2 h2 => sm0 8 (fun x3 h3 => ?_))
    obtain ⟨b0, b1, b2, b3⟩ := big x0 x1 x2 x3 (by omega) (by omega) (by omega) (by omega)
    unfold sp_rB
    rw [b0, b1, b2, b3, if_neg]
    simp; omega
  · intro x0 h0 h0'
    refine sm0 8 (fun x1 h1 => sm0 8 (fun x2 h2 => sm0 8 (fun x3 h3 => ?_)))
    obtain ⟨b0, b1, b2, b3⟩ := big x0 x1 x2 x3 (by omega) (by omega) (by omega) (by omega)
    unfold sp_rB
    rw [b0, b1, b2, b3, if_neg]
    simp; omega
theorem sp_v4_at {n : Nat → Nat} : ∀ k, k < 4 → sp_v4 (n 0) (n 1) (n 2) (n 3) k = n k := sp_all4 rfl rfl rfl rfl
/-- the graph in its plain form -/
abbrev sp_pl (n : Nat → Nat) : Nat → Nat := sp_v4 (n 0) (n 1) (n 2) (n 3)
theorem sp_E_pl (nb : Nat → Nat) : ∀ a, a < 4 → ∀ b, sp_E (sp_pl nb) a b = sp_E nb a b := fun a ha b => by simp only [sp_E, sp_v4_at a ha]
theorem sp_dg_pl (nb sk : Nat → Nat) : ∀ a, a < 4 → sp_dg (sp_E (sp_pl nb)) (sp_pl sk) a = sp_dg (sp_E nb) sk a := fun a ha => by simp only [sp_dg, sp_v4_at a ha, sp_E_pl nb a ha]
/-- all that is counted -/
theorem sp_det {nb sk : Nat → Nat} (h : sp_Ok nb sk) : sp_dI nb sk = (sp_cn nb sk : Int) ∧ sp_m3 (sp_pl nb) (sp_pl sk) 15 = nI (sp_cn nb sk) ∧ ¬ sp_m1 (sp_pl nb) (sp_pl sk) 0 = 0 ∧ ¬ sp_m2 (sp_pl nb) (sp_pl sk) 5 = 0 ∧ 1 ≤ sp_cn nb sk := by
  have k := sp_ckg_ok h
  unfold sp_ckg at k
  simp only [Bool.and_eq_true, decide_eq_true_eq] at k
  have e : sp_c4 (nb 0) (nb 1) (nb 2) (nb 3) (sp_dg (sp_E (sp_pl nb)) (sp_pl sk) 0) (sp_dg (sp_E (sp_pl nb)) (sp_pl sk) 1) (sp_dg (sp_E (sp_pl nb)) (sp_pl sk) 2) (sp_dg (sp_E (sp_pl nb)) (sp_pl sk) 3) = sp_cn nb sk := by
    rw [sp_cn_c4 h, sp_dg_pl nb sk 0 (by decide), sp_dg_pl nb sk 1 (by decide), sp_dg_pl nb sk 2 (by decide), sp_dg_pl nb sk 3 (by decide)]
  rw [e] at k
  obtain ⟨k1, k2, k3, k4, k5⟩ := k
  refine ⟨?_, k2, k3, k4, Nat.le_of_ble_eq_true k5⟩
  rw [← k1]
  unfold sp_dI
  rw [sp_dg_pl nb sk 0 (by decide), sp_dg_pl nb sk 1 (by decide), sp_dg_pl nb sk 2 (by decide), sp_dg_pl nb sk 3 (by decide), sp_E_pl nb 0 (by decide), sp_E_pl nb 0 (by decide), sp_E_pl nb 0 (by decide), sp_E_pl nb 1 (by decide), sp_E_pl nb 1 (by decide), sp_E_pl nb 2 (by decide)]
theorem sp_LaK_cn {nb sk : Nat → Nat} (h : sp_Ok nb sk) (s : Nat) : sp_LaK nb sk s (sp_cn nb sk) := sp_La_c (sp_det_La h (fun k => (sp_dt s k : Int))) (fun k _ => by rw [(sp_det h).1])
/-- at most 625 states are stable -/
theorem sp_625 : sp_sm 4096 (fun s => bif Nat.ble (sp_dt s 0) 4 then (bif Nat.ble (sp_dt s 1) 4 then (bif Nat.ble (sp_dt s 2) 4 then (bif Nat.ble (sp_dt s 3) 4 then 1 else 0) else 0) else 0) else 0) = 625 := by decide +kernel
theorem sp_sm_le {f g : Nat → Nat} : ∀ {n : Nat}, (∀ k, k < n → f k ≤ g k) → sp_sm n f ≤ sp_sm n g := by
  intro n
  induction n with
  | zero => intro _; exact Nat.le_refl _
  | succ n ih =>
    intro h
    rw [sp_sm_s, sp_sm_s]
    exact Nat.add_le_add (ih (fun k hk => h k (by omega))) (h n (by omega))
theorem sp_sm_le625 {nb sk : Nat → Nat} (h : sp_Ok nb sk) {f : Nat → Bool} (hf : ∀ s, s < 4096 → f s = true → sp_SbS nb sk s) : sp_sm 4096 (fun s => if f s = true then 1 else 0) ≤ 625 := by
  rw [← sp_625]
  refine sp_sm_le (fun s hs => ?_)
  by_cases e : f s = true
  · have a := hf s hs e
    have g : ∀ k, k < 4 → Nat.ble (sp_dt s k) 4 = true := fun k hk => Nat.ble_eq_true_of_le (by have := a k hk; have := h.dg5 k hk; omega)
    rw [if_pos e, g 0 (by decide), g 1 (by decide), g 2 (by decide), g 3 (by decide)]
    exact Nat.le_refl _
  · rw [if_neg e]; exact Nat.zero_le _
theorem sp_cn625 {nb sk : Nat → Nat} (h : sp_Ok nb sk) : sp_cn nb sk ≤ 625 := sp_sm_le625 h (fun s _ hs => ((sp_rB_iff h s).mp hs).1)
end
section
/-! pure: what is reached from the full state by single grains is what is recurrent -/
def sp_g1 (a : Nat) : Nat := 8 ^ (3 - a)
theorem sp_g1_dt : ∀ a, a < 4 → ∀ k, k < 4 → sp_dt (sp_g1 a) k = if k = a then 1 else 0 := by decide +kernel
theorem sp_g1_lt : ∀ a, a < 4 → sp_g1 a < 4096 := by decide +kernel
theorem sp_reach {nb sk : Nat → Nat} (h : sp_Ok nb sk) {f : Nat → Bool} (h0 : f (sp_pk (sp_fl nb sk)) = true) (hc : ∀ s, s < 4096 → f s = true → ∀ a, a < 4 → f (sp_ad nb sk s (sp_g1 a)) = true) : ∀ (n : Nat) (x : Nat → Nat), sp_tot x = n → ∃ t, t < 4096 ∧ f t = true ∧ sp_SbS nb sk t ∧ ∃ l, sp_Leg (sp_E nb) sk l (fun k => sp_fl nb sk k + x k) (sp_dt t) := by
  intro n
  induction n with
  | zero =>
    intro x hx
    refine ⟨_, sp_pk_lt (sp_fl8 h), h0, (sp_fl_Rec h).1, [], fun k hk => ?_⟩
    rw [sp_dt_pk (sp_fl8 h) k hk]
    show sp_fl nb sk k + x k = sp_fl nb sk k
    simp only [sp_tot] at hx
    rcases sp_lt4 hk with rfl | rfl | rfl | rfl <;> omega
  | succ n ih =>
    intro x hx
    have : ∃ a, a < 4 ∧ 1 ≤ x a := by
      refine Classical.byContradiction (fun q => ?_)
      have z : ∀ k, k < 4 → x k = 0 := fun k hk => by
        rcases Nat.eq_zero_or_pos (x k) with e | e
        · exact e
        · exact absurd ⟨k, hk, e⟩ q
      simp only [sp_tot, z 0 (by decide), z 1 (by decide), z 2 (by decide), z 3 (by decide)] at hx
      omega
    obtain ⟨a, ha, hxa⟩ := this
    obtain ⟨t, ht, hft, hst, l, hl⟩ := ih (fun k => if k = a then x k - 1 else x k) (by
      simp only [sp_tot] at hx ⊢
      rcases sp_lt4 ha with rfl | rfl | rfl | rfl <;> simp <;> omega)
    obtain ⟨l2, hl2, hs2⟩ := sp_sp_leg h (fun k => sp_dt t k + sp_dt (sp_g1 a) k)
    refine ⟨sp_ad nb sk t (sp_g1 a), sp_ad_lt h _ _, hc t ht hft a ha, hs2, l ++ l2, sp_Leg_app l l2 (sp_Leg_cl l (fun k hk => ?_) (sp_mono l (fun k => if k = a then 1 else 0) hl)) (sp_Leg_cl l2 (fun k hk => ?_) hl2)⟩
    · by_cases e : k = a
      · subst e; simp; omega
      · simp [e]
    · simp only [sp_g1_dt a ha k hk]
theorem sp_complete {nb sk : Nat → Nat} (h : sp_Ok nb sk) {f : Nat → Bool} (h0 : f (sp_pk (sp_fl nb sk)) = true) (hc : ∀ s, s < 4096 → f s = true → ∀ a, a < 4 → f (sp_ad nb sk s (sp_g1 a)) = true) {s : Nat} (hs : s < 4096) (hr : sp_RecS nb sk s) : f s = true := by
  obtain ⟨t, ht, hft, hst, l, hl⟩ := sp_reach h h0 hc _ (fun k => sp_dt s k + 4 * sk k - sp_fl nb sk k) rfl
  obtain ⟨l2, hl2⟩ := sp_burnK h.G hr.2 4
  have e := (sp_uni (sp_Leg_cl l (fun k hk => (show sp_fl nb sk k + (sp_dt s k + 4 * sk k - sp_fl nb sk k) = sp_dt s k + 4 * sk k from by
    have := h.dg5 k hk
    have := (h.1 k hk).2.1
    have e : sp_fl nb sk k = sp_dg (sp_E nb) sk k - 1 := rfl
    omega)) hl) hst hl2 hr.1).2
  rw [← sp_dt_inj ht hs e]
  exact hft
end
section
set_option maxRecDepth 100000
/-! walks: worlds of the two objects, numbers and bits -/
abbrev sp_aI (c : Nat → Nat) : Nat → Int32 := fun k => nI (c k)
def sp_up (c : Nat → Nat) (k v : Nat) : Nat → Nat := fun j => if j = k then v else c j
theorem sp_aup {c : Nat → Nat} {k v n : Nat} : ∀ j, j < n → (if j = k then nI v else sp_aI c j) = sp_aI (sp_up c k v) j := by
  intro j _
  show (if j = k then nI v else nI (c j)) = nI (if j = k then v else c j)
  split <;> rfl
abbrev sp_wX (ad : Nat → Nat) (dc : Nat → ClassId) (N S Dg G M : Nat → Int32) (kept top known go ne : Int32) : va_W :=
  [(ad 0, .inr (0, [.ref (ad 1), .ref (ad 2), .ref (ad 3), .ref (ad 4), .int kept, .int top, .int known, .int go, .int ne, .ref (ad 5)])), (ad 1, .inl (dc 1, 4, .inl N)), (ad 2, .inl (dc 2, 4, .inl S)), (ad 3, .inl (dc 3, 4, .inl Dg)), (ad 4, .inl (dc 4, 4, .inl G)), (ad 5, .inl (dc 5, 16, .inl M))]
abbrev sp_tX (dc : Nat → ClassId) : List (ClassId × FieldType) := [(dc 1, .byte), (dc 2, .byte), (dc 3, .byte), (dc 4, .int), (dc 5, .int)]
abbrev sp_wY (ad : Nat → Nat) (dc : Nat → ClassId) (N S G Wk F : Nat → Int32) (known top : Int32) : va_W :=
  [(ad 0, .inr (1, [.ref (ad 1), .ref (ad 2), .ref (ad 3), .ref (ad 4), .ref (ad 5), .int known, .int top])), (ad 1, .inl (dc 1, 4, .inl N)), (ad 2, .inl (dc 2, 4, .inl S)), (ad 3, .inl (dc 3, 4, .inl G)), (ad 4, .inl (dc 4, 4, .inl Wk)), (ad 5, .inl (dc 5, 4096, .inl F))]
abbrev sp_tY (dc : Nat → ClassId) : List (ClassId × FieldType) := [(dc 1, .int), (dc 2, .int), (dc 3, .int), (dc 4, .int), (dc 5, .boolean)]
theorem sp_sl : ∀ n, n < 32 → ((nI n &&& 31).toBitVec.smod 32).toNat = n := by decide +kernel
theorem sp_bit {x b : Nat} (hx : x < 2 ^ 31) (hb : b < 32) : (nI x >>> (nI b &&& 31)) &&& nI 1 = nI (x / 2 ^ b % 2) := by
  rw [pk_shrN hx _ b (sp_sl b hb)]
  have : x / 2 ^ b ≤ x := Nat.div_le_self _ _
  exact pk_andN (by omega) 1 (by decide)
theorem sp_dig {x a : Nat} (hx : x < 2 ^ 31) (ha : a < 4) : (nI x >>> (nI (9 - 3 * a) &&& 31)) &&& nI 7 = nI (sp_dt x a) := by
  rw [pk_shrN hx _ (9 - 3 * a) (sp_sl _ (by omega))]
  have : x / 2 ^ (9 - 3 * a) ≤ x := Nat.div_le_self _ _
  rw [pk_andN (m := nI 7) (by omega) 3 (by decide)]
  rcases sp_lt4 ha with rfl | rfl | rfl | rfl <;> rfl
theorem sp_shl1 : ∀ b, b < 4 → nI 1 <<< (nI b &&& 31) = nI (2 ^ b) := by decide +kernel
theorem sp_orb : ∀ x, x < 16 → ∀ b, b < 4 → nI x ||| nI (2 ^ b) = nI (x ||| 2 ^ b) := by decide +kernel
theorem sp_anb : ∀ x, x < 16 → ∀ b, b < 4 → nI x &&& (nI (2 ^ b) ^^^ (-1)) = nI (x &&& (15 ^^^ 2 ^ b)) := by decide +kernel
theorem sp_anm : ∀ x, x < 16 → ∀ m, m < 16 → nI x &&& (nI m ^^^ (-1)) = nI (sp_un x m) := by decide +kernel
theorem sp_i2b : ∀ x, x < 128 → (nI x).toInt8.toInt32 = nI x := by decide +kernel
theorem sp_nrb : ∀ x, x < 128 → vp_nar .byte (nI x) = nI x := by decide +kernel
theorem sp_un16 : ∀ x, x < 16 → ∀ m, m < 16 → sp_un x m < 16 := by decide +kernel
/-- a place -/
theorem sp_pl4 {a : Int32} (h0 : ¬ a < 0) (h1 : a < 4) : ∃ k, k < 4 ∧ a = nI k := by
  obtain ⟨j, hj, rfl⟩ := nI_of h0
  exact ⟨j, (nI_ltI (b := 4) hj (by decide)).mp h1, rfl⟩
def sp_isP (a : Int32) : Prop := ¬ a < 0 ∧ a < 4
end
section
set_option maxRecDepth 100000
theorem sp_le3 {a : Int32} (h0 : ¬ a < 0) (h : a < 4) : ¬ nI 3 < a := by
  obtain ⟨k, hk, rfl⟩ := sp_pl4 h0 h
  exact fun q => by have := (nI_ltI (by omega) (by omega)).mp q; omega
theorem sp_lt4i {a : Int32} (h0 : ¬ a < 0) (h : ¬ nI 3 < a) : a < 4 := by
  obtain ⟨j, hj, rfl⟩ := nI_of h0
  exact (nI_ltI (b := 4) hj (by decide)).mpr (by
    rcases Nat.lt_or_ge 3 j with q | q
    · exact absurd ((nI_ltI (by omega) (by omega)).mpr q) h
    · omega)
set_option maxHeartbeats 4000000 in
set_option maxRecDepth 100000 in
/-- digit -/
theorem metX0_digit (l : Launch) (D : va_G) (ad : Nat → Nat) (dc : Nat → ClassId) (tys : List (ClassId × FieldType)) (h : Nat) (fs : List Value) (w : va_W) (x a : Nat) (hx0 : x < 2 ^ 31) (ha : a < 4) : sp_MI l D (tys) yX0_digit cX0_digit 3 .int ({ frames := 0, cells := 0, slots := 0, locals := 0 } : Room) [.ref (h), .int (nI x), .int (nI a)] ((h, .inr (0, fs)) :: w) (S := Unit) (fun r _ => r = nI (sp_dt x a)) (fun _ => (h, .inr (0, fs)) :: w) := by
  refine sp_entI (own := RX0) (by decide) rfl (Nat.le_of_ble_eq_true rfl) ?_
  intro pg ev s mi args below meth cd A Q ls hC hW hret hl
  obtain ⟨hx, hb, -⟩ := id hC
  have hl : lv_has ls 3 [(0, .ref (h)), (1, .int (nI x)), (2, .int (nI a))] := hl
  refine lv_iload_n hx hb dX0_digit_0 rfl (lv_at hl 1 rfl) ?_
  refine lv_bipush (v := nI 9) hx hb dX0_digit_1 (by decide) ?_
  refine lv_iconst (v := nI 3) hx hb dX0_digit_3 (by decide) ?_
  refine lv_iload_n hx hb dX0_digit_4 rfl (lv_at hl 2 rfl) ?_
  refine lv_imul hx hb dX0_digit_5 ?_
  refine sp_top (pk_mul _ _) ?_
  refine lv_isub hx hb dX0_digit_6 ?_
  refine sp_top (y := nI (9 - 3 * a)) (pk_sub (by omega)) ?_
  refine lv_ishr hx hb dX0_digit_7 ?_
  refine lv_bipush (v := nI 7) hx hb dX0_digit_8 (by decide) ?_
  refine lv_iand hx hb dX0_digit_10 ?_
  refine sp_top (y := nI (sp_dt x a)) (sp_dig hx0 ha) ?_
  exact hret _ _ _ _ _ (()) dX0_digit_11 (rfl) (rfl) hW
set_option maxHeartbeats 4000000 in
set_option maxRecDepth 100000 in
/-- isPlace -/
theorem metX0_isPlace (l : Launch) (D : va_G) (ad : Nat → Nat) (dc : Nat → ClassId) (tys : List (ClassId × FieldType)) (h : Nat) (fs : List Value) (w : va_W) (a : Int32) : sp_MI l D (tys) yX0_isPlace cX0_isPlace 2 .boolean ({ frames := 0, cells := 0, slots := 0, locals := 0 } : Room) [.ref (h), .int a] ((h, .inr (0, fs)) :: w) (S := Unit) (fun r _ => (sp_isP a → r = nI 1) ∧ (¬ sp_isP a → r = nI 0)) (fun _ => (h, .inr (0, fs)) :: w) := by
  refine sp_entI (own := RX0) (by decide) rfl (Nat.le_of_ble_eq_true rfl) ?_
  intro pg ev s mi args below meth cd A Q ls hC hW hret hl
  obtain ⟨hx, hb, -⟩ := id hC
  have hl : lv_has ls 2 [(0, .ref (h)), (1, .int a)] := hl
  refine lv_iload_n hx hb dX0_isPlace_0 rfl (lv_at hl 1 rfl) ?_
  refine lv_if_lt (tgt := 13) hx hb dX0_isPlace_1 (by decide) (fun c1 => ?_) (fun c1 => ?_)
  · skip
    refine lv_iconst (v := nI 0) hx hb dX0_isPlace_13 (by decide) ?_
    exact hret _ _ _ _ _ (()) dX0_isPlace_14 (rfl) (⟨fun q => absurd c1 q.1, fun _ => rfl⟩) hW
  · skip
    refine lv_iload_n hx hb dX0_isPlace_4 rfl (lv_at hl 1 rfl) ?_
    refine lv_iconst (v := nI 4) hx hb dX0_isPlace_5 (by decide) ?_
    refine lv_icmp_ge (tgt := 13) hx hb dX0_isPlace_6 (by decide) (fun c2 => ?_) (fun c2 => ?_)
    · skip
      refine lv_iconst (v := nI 0) hx hb dX0_isPlace_13 (by decide) ?_
      exact hret _ _ _ _ _ (()) dX0_isPlace_14 (rfl) (⟨fun q => absurd q.2 (Int32.not_lt.mpr c2), fun _ => rfl⟩) hW
    · skip
      refine lv_iconst (v := nI 1) hx hb dX0_isPlace_9 (by decide) ?_
      refine lv_goto (tgt := 14) hx hb dX0_isPlace_10 (by decide) ?_
      exact hret _ _ _ _ _ (()) dX0_isPlace_14 (rfl) (⟨fun _ => rfl, fun q => absurd ⟨c1, Int32.not_le.mp c2⟩ q⟩) hW
set_option maxHeartbeats 4000000 in
set_option maxRecDepth 100000 in
/-- digit -/
theorem metX1_digit (l : Launch) (D : va_G) (ad : Nat → Nat) (dc : Nat → ClassId) (tys : List (ClassId × FieldType)) (h : Nat) (fs : List Value) (w : va_W) (x a : Nat) (hx0 : x < 2 ^ 31) (ha : a < 4) : sp_MI l D (tys) yX1_digit cX1_digit 3 .int ({ frames := 0, cells := 0, slots := 0, locals := 0 } : Room) [.ref (h), .int (nI x), .int (nI a)] ((h, .inr (1, fs)) :: w) (S := Unit) (fun r _ => r = nI (sp_dt x a)) (fun _ => (h, .inr (1, fs)) :: w) := by
  refine sp_entI (own := RX1) (by decide) rfl (Nat.le_of_ble_eq_true rfl) ?_
  intro pg ev s mi args below meth cd A Q ls hC hW hret hl
  obtain ⟨hx, hb, -⟩ := id hC
  have hl : lv_has ls 3 [(0, .ref (h)), (1, .int (nI x)), (2, .int (nI a))] := hl
  refine lv_iload_n hx hb dX1_digit_0 rfl (lv_at hl 1 rfl) ?_
  refine lv_bipush (v := nI 9) hx hb dX1_digit_1 (by decide) ?_
  refine lv_iconst (v := nI 3) hx hb dX1_digit_3 (by decide) ?_
  refine lv_iload_n hx hb dX1_digit_4 rfl (lv_at hl 2 rfl) ?_
  refine lv_imul hx hb dX1_digit_5 ?_
  refine sp_top (pk_mul _ _) ?_
  refine lv_isub hx hb dX1_digit_6 ?_
  refine sp_top (y := nI (9 - 3 * a)) (pk_sub (by omega)) ?_
  refine lv_ishr hx hb dX1_digit_7 ?_
  refine lv_bipush (v := nI 7) hx hb dX1_digit_8 (by decide) ?_
  refine lv_iand hx hb dX1_digit_10 ?_
  refine sp_top (y := nI (sp_dt x a)) (sp_dig hx0 ha) ?_
  exact hret _ _ _ _ _ (()) dX1_digit_11 (rfl) (rfl) hW
set_option maxHeartbeats 4000000 in
set_option maxRecDepth 100000 in
/-- isPlace -/
theorem metX1_isPlace (l : Launch) (D : va_G) (ad : Nat → Nat) (dc : Nat → ClassId) (tys : List (ClassId × FieldType)) (h : Nat) (fs : List Value) (w : va_W) (a : Int32) : sp_MI l D (tys) yX1_isPlace cX1_isPlace 2 .boolean ({ frames := 0, cells := 0, slots := 0, locals := 0 } : Room) [.ref (h), .int a] ((h, .inr (1, fs)) :: w) (S := Unit) (fun r _ => (sp_isP a → r = nI 1) ∧ (¬ sp_isP a → r = nI 0)) (fun _ => (h, .inr (1, fs)) :: w) := by
  refine sp_entI (own := RX1) (by decide) rfl (Nat.le_of_ble_eq_true rfl) ?_
  intro pg ev s mi args below meth cd A Q ls hC hW hret hl
  obtain ⟨hx, hb, -⟩ := id hC
  have hl : lv_has ls 2 [(0, .ref (h)), (1, .int a)] := hl
  refine lv_iload_n hx hb dX1_isPlace_0 rfl (lv_at hl 1 rfl) ?_
  refine lv_if_lt (tgt := 13) hx hb dX1_isPlace_1 (by decide) (fun c1 => ?_) (fun c1 => ?_)
  · skip
    refine lv_iconst (v := nI 0) hx hb dX1_isPlace_13 (by decide) ?_
    exact hret _ _ _ _ _ (()) dX1_isPlace_14 (rfl) (⟨fun q => absurd c1 q.1, fun _ => rfl⟩) hW
  · skip
    refine lv_iload_n hx hb dX1_isPlace_4 rfl (lv_at hl 1 rfl) ?_
    refine lv_iconst (v := nI 3) hx hb dX1_isPlace_5 (by decide) ?_
    refine lv_icmp_gt (tgt := 13) hx hb dX1_isPlace_6 (by decide) (fun c2 => ?_) (fun c2 => ?_)
    · skip
      refine lv_iconst (v := nI 0) hx hb dX1_isPlace_13 (by decide) ?_
      exact hret _ _ _ _ _ (()) dX1_isPlace_14 (rfl) (⟨fun q => absurd c2 (sp_le3 q.1 q.2), fun _ => rfl⟩) hW
    · skip
      refine lv_iconst (v := nI 1) hx hb dX1_isPlace_9 (by decide) ?_
      refine lv_goto (tgt := 14) hx hb dX1_isPlace_10 (by decide) ?_
      exact hret _ _ _ _ _ (()) dX1_isPlace_14 (rfl) (⟨fun _ => rfl, fun q => absurd ⟨c1, sp_lt4i c1 c2⟩ q⟩) hW
end
section
set_option maxRecDepth 100000
def sp_isS (nb sk : Nat → Nat) (x : Int32) : Prop := ∃ j, j < 4096 ∧ x = nI j ∧ sp_SbS nb sk j
def sp_hn (c : Nat → Nat) : Nat → Nat
  | 0 => 0
  | k + 1 => 8 * sp_hn c k + c k
set_option maxHeartbeats 4000000 in
set_option maxRecDepth 100000 in
/-- isStable -/
theorem metX0_isStable (l : Launch) (D : va_G) (ad : Nat → Nat) (dc : Nat → ClassId) (nb sk : Nat → Nat) (hok : sp_Ok nb sk) (N S G M : Nat → Int32) (kept top known go ne : Int32) (x : Int32) : sp_MI l D (sp_tX dc) yX0_isStable cX0_isStable 3 .boolean ({ frames := 1, cells := 0, slots := 0, locals := 22 } : Room) [.ref (ad 0), .int x] (sp_wX ad dc (N) (S) (sp_aI (sp_dg (sp_E nb) sk)) (G) (M) (kept) (top) (known) (go) (ne)) (S := Unit) (fun r _ => (sp_isS nb sk x → r = nI 1) ∧ (¬ sp_isS nb sk x → r = nI 0)) (fun _ => sp_wX ad dc (N) (S) (sp_aI (sp_dg (sp_E nb) sk)) (G) (M) (kept) (top) (known) (go) (ne)) := by
  refine sp_entI (own := RX0) (by decide) rfl (Nat.le_of_ble_eq_true rfl) ?_
  intro pg ev s mi args below meth cd A Q ls hC hW hret hl
  obtain ⟨hx, hb, -⟩ := id hC
  have hl : lv_has ls 3 [(0, .ref (ad 0)), (1, .int x)] := hl
  refine lv_iload_n hx hb dX0_isStable_0 rfl (lv_at hl 1 rfl) ?_
  refine lv_if_lt (tgt := 11) hx hb dX0_isStable_1 (by decide) (fun c1 => ?_) (fun c1 => ?_)
  · skip
    refine lv_iconst (v := nI 0) hx hb dX0_isStable_11 (by decide) ?_
    exact hret _ _ _ _ _ (()) dX0_isStable_12 (rfl) (⟨fun q => absurd c1 (by obtain ⟨j, hj, e, -⟩ := q; rw [e]; exact nI_pos (by omega)), fun _ => rfl⟩) hW
  · skip
    obtain ⟨y, hy, rfl⟩ := nI_of c1
    refine lv_iload_n hx hb dX0_isStable_4 rfl (lv_at hl 1 rfl) ?_
    refine lv_sipush (v := nI 4095) hx hb dX0_isStable_5 (by decide) ?_
    refine sp_icmp_le (a := y) (b := 4095) (tgt := 13) hx hb dX0_isStable_8 (by decide) (by omega) (by omega) (fun c2 => ?_) (fun c2 => ?_)
    · skip
      refine lv_iconst (v := nI 0) hx hb dX0_isStable_13 (by decide) ?_
      refine lv_istore_n (lv' := [(2, .int (nI 0)), (0, .ref (ad 0)), (1, .int (nI y))]) hx hb dX0_isStable_14 rfl hl (by decide) rfl (fun ls hl => ?_)
      have loop : ∀ (n i : Nat) , i + n = 4 → (∀ k, k < i → sp_dt y k < sp_dg (sp_E nb) sk k) → ∀ (H : Heap) (locs : List Loc) (ls : Array Slot), sp_Wd D (sp_wX ad dc (N) (S) (sp_aI (sp_dg (sp_E nb) sk)) (G) (M) (kept) (top) (known) (go) (ne)) A s.heap H locs → lv_has ls 3 [(0, .ref (ad 0)), (1, .int (nI y)), (2, .int (nI i))] → W pg l ev ({ frames := 1, cells := 0, slots := 0, locals := 22 } : Room) s mi args below meth cd H locs 0 0 Q (F0 mi 15 ls []) := by
        intro n
        induction n with
        | zero =>
          intro i hi_i hd H locs ls hW hl
          refine lv_iload_n hx hb dX0_isStable_15 rfl (lv_at hl 2 rfl) ?_
          refine lv_iconst (v := nI 4) hx hb dX0_isStable_16 (by decide) ?_
          refine sp_icmp_ge (a := i) (b := 4) (tgt := 43) hx hb dX0_isStable_17 (by decide) (by omega) (by omega) (fun c => ?_) (fun c => ?_)
          · skip
            refine lv_iconst (v := nI 1) hx hb dX0_isStable_43 (by decide) ?_
            exact hret _ _ _ _ _ (()) dX0_isStable_44 (rfl) (⟨fun _ => rfl, fun q => absurd ⟨y, by omega, rfl, fun k hk => hd k (by omega)⟩ q⟩) hW
          · skip
            exfalso; omega
        | succ n ih =>
          intro i hi_i hd H locs ls hW hl
          refine lv_iload_n hx hb dX0_isStable_15 rfl (lv_at hl 2 rfl) ?_
          refine lv_iconst (v := nI 4) hx hb dX0_isStable_16 (by decide) ?_
          refine sp_icmp_ge (a := i) (b := 4) (tgt := 43) hx hb dX0_isStable_17 (by decide) (by omega) (by omega) (fun c => ?_) (fun c => ?_)
          · skip
            exfalso; omega
          · skip
            refine lv_aload_n hx hb dX0_isStable_20 rfl (lv_at hl 0 rfl) ?_
            refine lv_iload_n hx hb dX0_isStable_21 rfl (lv_at hl 1 rfl) ?_
            refine lv_iload_n hx hb dX0_isStable_22 rfl (lv_at hl 2 rfl) ?_
            refine sp_callI (n := 2) (rest := []) hC hW (metX0_digit l D ad dc _ (ad 0) _ _ (y) (i) (by omega) (by omega)) q97 q99 qs3 q30 q100 rfl rfl rfl (by decide +kernel) ⟨by decide, by decide⟩ rfl hl rfl (Nat.le_of_ble_eq_true rfl) ⟨Nat.zero_le _, Nat.zero_le _⟩ dX0_isStable_23 (fun r u H locs hp hW => ?_)
            have hp : r = nI (sp_dt y i) := hp
            subst hp
            have hW : sp_Wd D (sp_wX ad dc (N) (S) (sp_aI (sp_dg (sp_E nb) sk)) (G) (M) (kept) (top) (known) (go) (ne)) A s.heap H locs := hW
            refine lv_aload_n hx hb dX0_isStable_26 rfl (lv_at hl 0 rfl) ?_
            refine sp_get0 hC hW 2 (by decide) q42 rfl (v := .ref (ad 3)) rfl dX0_isStable_27 ?_
            refine lv_iload_n hx hb dX0_isStable_30 rfl (lv_at hl 2 rfl) ?_
            refine sp_bald hC hW 3 2 rfl rfl (k := i) (v := nI (sp_dg (sp_E nb) sk i)) (by omega) (by decide) rfl dX0_isStable_31 ?_
            have hdg5 := hok.dg5 i (by omega)
            have hdt8 := sp_dt_lt y i
            refine sp_icmp_lt (a := sp_dt y i) (b := sp_dg (sp_E nb) sk i) (tgt := 37) hx hb dX0_isStable_32 (by decide) (by omega) (by omega) (fun c3 => ?_) (fun c3 => ?_)
            · skip
              refine lv_iinc (v := nI (i + 1)) (lv' := [(2, .int (nI (i + 1))), (0, .ref (ad 0)), (1, .int (nI y))]) hx hb dX0_isStable_37 hl (k := 2) rfl (nI_1 _) (by decide) rfl (fun ls hl => ?_)
              refine lv_goto (tgt := 15) hx hb dX0_isStable_40 (by decide) ?_
              exact ih (i + 1) (by omega) (lt_s hd c3) _ _ _ hW (lv_sub hl [1, 2, 0] rfl)
            · skip
              refine lv_iconst (v := nI 0) hx hb dX0_isStable_35 (by decide) ?_
              exact hret _ _ _ _ _ (()) dX0_isStable_36 (rfl) (⟨fun q => absurd c3 (by obtain ⟨j, hj, e, hs⟩ := q; have e := (nI_eq (by omega) (by omega)).mp e; subst e; exact Nat.not_le.mpr (hs i (by omega))), fun _ => rfl⟩) hW
      exact loop 4 0 (by omega) lt_0 _ _ _ hW (lv_sub hl [1, 2, 0] rfl)
    · skip
      refine lv_iconst (v := nI 0) hx hb dX0_isStable_11 (by decide) ?_
      exact hret _ _ _ _ _ (()) dX0_isStable_12 (rfl) (⟨fun q => absurd c2 (by obtain ⟨j, hj, e, hs⟩ := q; have e := (nI_eq (by omega) (by omega)).mp e; omega), fun _ => rfl⟩) hW
set_option maxHeartbeats 4000000 in
set_option maxRecDepth 100000 in
/-- load -/
theorem metX0_load (l : Launch) (D : va_G) (ad : Nat → Nat) (dc : Nat → ClassId) (Dg : Nat → Int32) (N S G M : Nat → Int32) (kept top known go ne : Int32) (x : Nat) (hx0 : x < 2 ^ 31) : sp_MV l D (sp_tX dc) yX0_load cX0_load 3 ({ frames := 1, cells := 0, slots := 0, locals := 22 } : Room) [.ref (ad 0), .int (nI x)] (sp_wX ad dc (N) (S) (Dg) (G) (M) (kept) (top) (known) (go) (ne)) (S := Unit) (fun _ => True) (fun _ => sp_wX ad dc (N) (S) (Dg) (sp_aI (sp_dt x)) (M) (kept) (top) (known) (go) (ne)) := by
  refine sp_entV (own := RX0) (by decide) rfl (Nat.le_of_ble_eq_true rfl) ?_
  intro pg ev s mi args below meth cd A Q ls hC hW hret hl
  obtain ⟨hx, hb, -⟩ := id hC
  have hl : lv_has ls 3 [(0, .ref (ad 0)), (1, .int (nI x))] := hl
  refine lv_iconst (v := nI 0) hx hb dX0_load_0 (by decide) ?_
  refine lv_istore_n (lv' := [(2, .int (nI 0)), (0, .ref (ad 0)), (1, .int (nI x))]) hx hb dX0_load_1 rfl hl (by decide) rfl (fun ls hl => ?_)
  have loop : ∀ (n i : Nat) (g : Nat → Int32), i + n = 4 → (∀ k, k < i → g k = sp_aI (sp_dt x) k) → ∀ (H : Heap) (locs : List Loc) (ls : Array Slot), sp_Wd D (sp_wX ad dc (N) (S) (Dg) (g) (M) (kept) (top) (known) (go) (ne)) A s.heap H locs → lv_has ls 3 [(0, .ref (ad 0)), (1, .int (nI x)), (2, .int (nI i))] → W pg l ev ({ frames := 1, cells := 0, slots := 0, locals := 22 } : Room) s mi args below meth cd H locs 0 0 Q (F0 mi 2 ls []) := by
    intro n
    induction n with
    | zero =>
      intro i g hi_i hg H locs ls hW hl
      refine lv_iload_n hx hb dX0_load_2 rfl (lv_at hl 2 rfl) ?_
      refine lv_iconst (v := nI 4) hx hb dX0_load_3 (by decide) ?_
      refine sp_icmp_ge (a := i) (b := 4) (tgt := 25) hx hb dX0_load_4 (by decide) (by omega) (by omega) (fun c => ?_) (fun c => ?_)
      · skip
        have hW := hW.arr 4 rfl (sp_aI (sp_dt x)) (fun j hj => hg j (by omega))
        have hW : sp_Wd D (sp_wX ad dc (N) (S) (Dg) (sp_aI (sp_dt x)) (M) (kept) (top) (known) (go) (ne)) A s.heap H locs := hW
        exact hret _ _ _ _ (()) dX0_load_25 (trivial) hW
      · skip
        exfalso; omega
    | succ n ih =>
      intro i g hi_i hg H locs ls hW hl
      refine lv_iload_n hx hb dX0_load_2 rfl (lv_at hl 2 rfl) ?_
      refine lv_iconst (v := nI 4) hx hb dX0_load_3 (by decide) ?_
      refine sp_icmp_ge (a := i) (b := 4) (tgt := 25) hx hb dX0_load_4 (by decide) (by omega) (by omega) (fun c => ?_) (fun c => ?_)
      · skip
        exfalso; omega
      · skip
        refine lv_aload_n hx hb dX0_load_7 rfl (lv_at hl 0 rfl) ?_
        refine sp_get0 hC hW 3 (by decide) q43 rfl (v := .ref (ad 4)) rfl dX0_load_8 ?_
        refine lv_iload_n hx hb dX0_load_11 rfl (lv_at hl 2 rfl) ?_
        refine lv_aload_n hx hb dX0_load_12 rfl (lv_at hl 0 rfl) ?_
        refine lv_iload_n hx hb dX0_load_13 rfl (lv_at hl 1 rfl) ?_
        refine lv_iload_n hx hb dX0_load_14 rfl (lv_at hl 2 rfl) ?_
        refine sp_callI (n := 2) (rest := [.int (nI i), .ref (ad 4)]) hC hW (metX0_digit l D ad dc _ (ad 0) _ _ (x) (i) (by omega) (by omega)) q97 q99 qs3 q30 q100 rfl rfl rfl (by decide +kernel) ⟨by decide, by decide⟩ rfl hl rfl (Nat.le_of_ble_eq_true rfl) ⟨Nat.zero_le _, Nat.zero_le _⟩ dX0_load_15 (fun r u H locs hp hW => ?_)
        have hp : r = nI (sp_dt x i) := hp
        subst hp
        have hW : sp_Wd D (sp_wX ad dc (N) (S) (Dg) (g) (M) (kept) (top) (known) (go) (ne)) A s.heap H locs := hW
        refine sp_iast hC hW 4 3 rfl rfl (k := i) (x := nI (sp_dt x i)) (by omega) (by decide) (fun j => if j = i then nI (sp_dt x i) else g j) (fun _ _ => rfl) dX0_load_18 (fun H locs hW => ?_)
        have hW : sp_Wd D (sp_wX ad dc (N) (S) (Dg) (fun j => if j = i then nI (sp_dt x i) else g j) (M) (kept) (top) (known) (go) (ne)) A s.heap H locs := hW
        refine lv_iinc (v := nI (i + 1)) (lv' := [(2, .int (nI (i + 1))), (0, .ref (ad 0)), (1, .int (nI x))]) hx hb dX0_load_19 hl (k := 2) rfl (nI_1 _) (by decide) rfl (fun ls hl => ?_)
        refine lv_goto (tgt := 2) hx hb dX0_load_22 (by decide) ?_
        exact ih (i + 1) _ (by omega) (lt_s (fun k hk => by show (if k = i then _ else g k) = _; rw [if_neg (by omega)]; exact hg k hk) (by show (if i = i then _ else _) = _; rw [if_pos rfl])) _ _ _ hW (lv_sub hl [1, 2, 0] rfl)
  exact loop 4 0 G (by omega) lt_0 _ _ _ hW (lv_sub hl [1, 2, 0] rfl)
set_option maxHeartbeats 4000000 in
set_option maxRecDepth 100000 in
/-- packed -/
theorem metX0_packed (l : Launch) (D : va_G) (ad : Nat → Nat) (dc : Nat → ClassId) (Dg : Nat → Int32) (c0 : Nat → Nat) (N S M : Nat → Int32) (kept top known go ne : Int32) : sp_MI l D (sp_tX dc) yX0_packed cX0_packed 3 .int ({ frames := 0, cells := 0, slots := 0, locals := 0 } : Room) [.ref (ad 0)] (sp_wX ad dc (N) (S) (Dg) (sp_aI c0) (M) (kept) (top) (known) (go) (ne)) (S := Unit) (fun r _ => r = nI (sp_pk c0)) (fun _ => sp_wX ad dc (N) (S) (Dg) (sp_aI c0) (M) (kept) (top) (known) (go) (ne)) := by
  refine sp_entI (own := RX0) (by decide) rfl (Nat.le_of_ble_eq_true rfl) ?_
  intro pg ev s mi args below meth cd A Q ls hC hW hret hl
  obtain ⟨hx, hb, -⟩ := id hC
  have hl : lv_has ls 3 [(0, .ref (ad 0))] := hl
  refine lv_iconst (v := nI 0) hx hb dX0_packed_0 (by decide) ?_
  refine lv_istore_n (lv' := [(1, .int (nI 0)), (0, .ref (ad 0))]) hx hb dX0_packed_1 rfl hl (by decide) rfl (fun ls hl => ?_)
  refine lv_iconst (v := nI 0) hx hb dX0_packed_2 (by decide) ?_
  refine lv_istore_n (lv' := [(2, .int (nI 0)), (1, .int (nI 0)), (0, .ref (ad 0))]) hx hb dX0_packed_3 rfl hl (by decide) rfl (fun ls hl => ?_)
  have loop : ∀ (n i : Nat) , i + n = 4 → ∀ (H : Heap) (locs : List Loc) (ls : Array Slot), sp_Wd D (sp_wX ad dc (N) (S) (Dg) (sp_aI c0) (M) (kept) (top) (known) (go) (ne)) A s.heap H locs → lv_has ls 3 [(0, .ref (ad 0)), (1, .int (nI (sp_hn c0 i))), (2, .int (nI i))] → W pg l ev ({ frames := 0, cells := 0, slots := 0, locals := 0 } : Room) s mi args below meth cd H locs 0 0 Q (F0 mi 4 ls []) := by
    intro n
    induction n with
    | zero =>
      intro i hi_i H locs ls hW hl
      refine lv_iload_n hx hb dX0_packed_4 rfl (lv_at hl 2 rfl) ?_
      refine lv_iconst (v := nI 4) hx hb dX0_packed_5 (by decide) ?_
      refine sp_icmp_ge (a := i) (b := 4) (tgt := 27) hx hb dX0_packed_6 (by decide) (by omega) (by omega) (fun c => ?_) (fun c => ?_)
      · skip
        refine lv_iload_n hx hb dX0_packed_27 rfl (lv_at hl 1 rfl) ?_
        have e4 : i = 4 := by omega
        subst e4
        exact hret _ _ _ _ _ (()) dX0_packed_28 (rfl) (congrArg nI (by simp only [sp_hn, sp_pk]; omega)) hW
      · skip
        exfalso; omega
    | succ n ih =>
      intro i hi_i H locs ls hW hl
      refine lv_iload_n hx hb dX0_packed_4 rfl (lv_at hl 2 rfl) ?_
      refine lv_iconst (v := nI 4) hx hb dX0_packed_5 (by decide) ?_
      refine sp_icmp_ge (a := i) (b := 4) (tgt := 27) hx hb dX0_packed_6 (by decide) (by omega) (by omega) (fun c => ?_) (fun c => ?_)
      · skip
        exfalso; omega
      · skip
        refine lv_bipush (v := nI 8) hx hb dX0_packed_9 (by decide) ?_
        refine lv_iload_n hx hb dX0_packed_11 rfl (lv_at hl 1 rfl) ?_
        refine lv_imul hx hb dX0_packed_12 ?_
        refine sp_top (pk_mul _ _) ?_
        refine lv_aload_n hx hb dX0_packed_13 rfl (lv_at hl 0 rfl) ?_
        refine sp_get0 hC hW 3 (by decide) q43 rfl (v := .ref (ad 4)) rfl dX0_packed_14 ?_
        refine lv_iload_n hx hb dX0_packed_17 rfl (lv_at hl 2 rfl) ?_
        refine sp_iald hC hW 4 3 rfl rfl (k := i) (v := nI (c0 i)) (by omega) (by decide) rfl dX0_packed_18 ?_
        refine lv_iadd hx hb dX0_packed_19 ?_
        refine sp_top (nI_add _ _) ?_
        refine sp_top (y := nI (sp_hn c0 (i + 1))) (rfl) ?_
        refine lv_istore_n (lv' := [(1, .int (nI (sp_hn c0 (i + 1)))), (0, .ref (ad 0)), (2, .int (nI i))]) hx hb dX0_packed_20 rfl hl (by decide) rfl (fun ls hl => ?_)
        refine lv_iinc (v := nI (i + 1)) (lv' := [(2, .int (nI (i + 1))), (1, .int (nI (sp_hn c0 (i + 1)))), (0, .ref (ad 0))]) hx hb dX0_packed_21 hl (k := 2) rfl (nI_1 _) (by decide) rfl (fun ls hl => ?_)
        refine lv_goto (tgt := 4) hx hb dX0_packed_24 (by decide) ?_
        exact ih (i + 1) (by omega) _ _ _ hW (lv_sub hl [2, 1, 0] rfl)
  exact loop 4 0 (by omega) _ _ _ hW (lv_sub hl [2, 1, 0] rfl)
end
section
set_option maxRecDepth 100000
theorem sp_tot_ge {c : Nat → Nat} (k : Nat) (hk : k < 4) : c k ≤ sp_tot c := by
  simp only [sp_tot]
  rcases sp_lt4 hk with rfl | rfl | rfl | rfl <;> omega
set_option maxHeartbeats 4000000 in
set_option maxRecDepth 100000 in
/-- settle -/
theorem metX0_settle (l : Launch) (D : va_G) (ad : Nat → Nat) (dc : Nat → ClassId) (nb sk : Nat → Nat) (hok : sp_Ok nb sk) (c0 : Nat → Nat) (hc0 : sp_tot c0 ≤ 1048576) (S M : Nat → Int32) (kept top known go ne : Int32) : sp_MV l D (sp_tX dc) yX0_settle cX0_settle 5 ({ frames := 0, cells := 0, slots := 0, locals := 0 } : Room) [.ref (ad 0)] (sp_wX ad dc (sp_aI nb) (S) (sp_aI (sp_dg (sp_E nb) sk)) (sp_aI c0) (M) (kept) (top) (known) (go) (ne)) (S := Unit) (fun _ => True) (fun _ => sp_wX ad dc (sp_aI nb) (S) (sp_aI (sp_dg (sp_E nb) sk)) (sp_aI (sp_st (sp_E nb) sk c0)) (M) (kept) (nI (sp_ct (sp_E nb) sk c0)) (known) (go) (ne)) := by
  refine sp_entV (own := RX0) (by decide) rfl (Nat.le_of_ble_eq_true rfl) ?_
  intro pg ev s mi args below meth cd A Q ls hC hW hret hl
  obtain ⟨hx, hb, -⟩ := id hC
  have hl : lv_has ls 5 [(0, .ref (ad 0))] := hl
  refine lv_aload_n hx hb dX0_settle_0 rfl (lv_at hl 0 rfl) ?_
  refine lv_iconst (v := nI 0) hx hb dX0_settle_1 (by decide) ?_
  refine sp_put0 hC hW 5 (by decide) q45 rfl rfl (ty := .int) (v := .int (nI 0)) (by decide +kernel) rfl rfl (Nat.le_of_ble_eq_true rfl) dX0_settle_2 (fun H locs hW => ?_)
  have hW : sp_Wd D (sp_wX ad dc (sp_aI nb) (S) (sp_aI (sp_dg (sp_E nb) sk)) (sp_aI c0) (M) (kept) (nI 0) (known) (go) (ne)) A s.heap H locs := hW
  refine lv_iconst (v := nI 1) hx hb dX0_settle_5 (by decide) ?_
  refine lv_istore_n (lv' := [(1, .int (nI 1)), (0, .ref (ad 0))]) hx hb dX0_settle_6 rfl hl (by decide) rfl (fun ls hl => ?_)
  have wl : ∀ (nw : Nat) (c1 : Nat → Nat) (t : Nat) (mv : Nat) (L : List Nat), sp_tot c1 + mv ≤ nw → mv ≤ 1 → (mv = 0 → sp_Sb (sp_E nb) sk c1) → sp_Leg (sp_E nb) sk L c0 c1 → t = L.length → ∀ (H : Heap) (locs : List Loc) (ls : Array Slot), sp_Wd D (sp_wX ad dc (sp_aI nb) (S) (sp_aI (sp_dg (sp_E nb) sk)) (sp_aI c1) (M) (kept) (nI t) (known) (go) (ne)) A s.heap H locs → lv_has ls 5 [(0, .ref (ad 0)), (1, .int (nI mv))] → W pg l ev ({ frames := 0, cells := 0, slots := 0, locals := 0 } : Room) s mi args below meth cd H locs 0 0 Q (F0 mi 7 ls []) := by
    intro nw
    induction nw with
    | zero =>
      intro c1 t mv L hm_nw hmvb hsb hleg ht H locs ls hW hl
      refine lv_iload_n hx hb dX0_settle_7 rfl (lv_at hl 1 rfl) ?_
      refine sp_if_eq (a := mv) (tgt := 119) hx hb dX0_settle_8 (by decide) (by omega) (fun c => ?_) (fun c => ?_)
      · skip
        have hs := hsb c
        have hW := hW.arr 4 rfl (sp_aI (sp_st (sp_E nb) sk c0)) (fun j hj => congrArg nI (sp_st_eq hleg hs j hj).symm)
        rw [ht, ← sp_ct_eq hleg hs] at hW
        exact hret _ _ _ _ (()) dX0_settle_119 (trivial) hW
      · skip
        exfalso; omega
    | succ nw ihw =>
      intro c1 t mv L hm_nw hmvb hsb hleg ht H locs ls hW hl
      refine lv_iload_n hx hb dX0_settle_7 rfl (lv_at hl 1 rfl) ?_
      refine sp_if_eq (a := mv) (tgt := 119) hx hb dX0_settle_8 (by decide) (by omega) (fun c => ?_) (fun c => ?_)
      · skip
        have hs := hsb c
        have hW := hW.arr 4 rfl (sp_aI (sp_st (sp_E nb) sk c0)) (fun j hj => congrArg nI (sp_st_eq hleg hs j hj).symm)
        rw [ht, ← sp_ct_eq hleg hs] at hW
        exact hret _ _ _ _ (()) dX0_settle_119 (trivial) hW
      · skip
        refine lv_iconst (v := nI 0) hx hb dX0_settle_11 (by decide) ?_
        refine lv_istore_n (lv' := [(1, .int (nI 0)), (0, .ref (ad 0))]) hx hb dX0_settle_12 rfl hl (by decide) rfl (fun ls hl => ?_)
        refine lv_iconst (v := nI 0) hx hb dX0_settle_13 (by decide) ?_
        refine lv_istore_n (lv' := [(2, .int (nI 0)), (1, .int (nI 0)), (0, .ref (ad 0))]) hx hb dX0_settle_14 rfl hl (by decide) rfl (fun ls hl => ?_)
        have la : ∀ (na i : Nat) (c2 : Nat → Nat) (t2 : Nat) (mv2 : Nat) (L2 : List Nat), i + na = 4 → mv2 ≤ 1 → (1 ≤ mv2 → sp_tot c2 < sp_tot c1) → sp_tot c2 ≤ sp_tot c1 → (mv2 = 0 → ∀ k, k < i → c2 k < sp_dg (sp_E nb) sk k) → sp_Leg (sp_E nb) sk L2 c0 c2 → t2 = L2.length → ∀ (H : Heap) (locs : List Loc) (ls : Array Slot), sp_Wd D (sp_wX ad dc (sp_aI nb) (S) (sp_aI (sp_dg (sp_E nb) sk)) (sp_aI c2) (M) (kept) (nI t2) (known) (go) (ne)) A s.heap H locs → lv_has ls 5 [(0, .ref (ad 0)), (1, .int (nI mv2)), (2, .int (nI i))] → W pg l ev ({ frames := 0, cells := 0, slots := 0, locals := 0 } : Room) s mi args below meth cd H locs 0 0 Q (F0 mi 15 ls []) := by
          intro na
          induction na with
          | zero =>
            intro i c2 t2 mv2 L2 hi_i hmv2b hmv2 hle hz hleg2 ht2 H locs ls hW hl
            refine lv_iload_n hx hb dX0_settle_15 rfl (lv_at hl 2 rfl) ?_
            refine lv_iconst (v := nI 4) hx hb dX0_settle_16 (by decide) ?_
            refine sp_icmp_ge (a := i) (b := 4) (tgt := 116) hx hb dX0_settle_17 (by decide) (by omega) (by omega) (fun c => ?_) (fun c => ?_)
            · skip
              refine lv_goto (tgt := 7) hx hb dX0_settle_116 (by decide) ?_
              have e4 : i = 4 := by omega
              subst e4
              have hmm : sp_tot c2 + mv2 ≤ nw := by
                rcases Nat.eq_zero_or_pos mv2 with q | q
                · omega
                · have := hmv2 q; omega
              exact ihw c2 t2 mv2 L2 hmm hmv2b (fun q => (hz q)) hleg2 ht2 _ _ _ hW (lv_sub hl [0, 1] rfl)
            · skip
              exfalso; omega
          | succ na iha =>
            intro i c2 t2 mv2 L2 hi_i hmv2b hmv2 hle hz hleg2 ht2 H locs ls hW hl
            refine lv_iload_n hx hb dX0_settle_15 rfl (lv_at hl 2 rfl) ?_
            refine lv_iconst (v := nI 4) hx hb dX0_settle_16 (by decide) ?_
            refine sp_icmp_ge (a := i) (b := 4) (tgt := 116) hx hb dX0_settle_17 (by decide) (by omega) (by omega) (fun c => ?_) (fun c => ?_)
            · skip
              exfalso; omega
            · skip
              have hdp := hok.dg1 i (by omega)
              have hd5 := hok.dg5 i (by omega)
              have hca : c2 i ≤ sp_tot c2 := sp_tot_ge i (by omega)
              have htl := sp_Leg_tot hok.G L2 hleg2
              refine lv_aload_n hx hb dX0_settle_20 rfl (lv_at hl 0 rfl) ?_
              refine sp_get0 hC hW 3 (by decide) q43 rfl (v := .ref (ad 4)) rfl dX0_settle_21 ?_
              refine lv_iload_n hx hb dX0_settle_24 rfl (lv_at hl 2 rfl) ?_
              refine sp_iald hC hW 4 3 rfl rfl (k := i) (v := nI (c2 i)) (by omega) (by decide) rfl dX0_settle_25 ?_
              refine lv_aload_n hx hb dX0_settle_26 rfl (lv_at hl 0 rfl) ?_
              refine sp_get0 hC hW 2 (by decide) q42 rfl (v := .ref (ad 3)) rfl dX0_settle_27 ?_
              refine lv_iload_n hx hb dX0_settle_30 rfl (lv_at hl 2 rfl) ?_
              refine sp_bald hC hW 3 2 rfl rfl (k := i) (v := nI (sp_dg (sp_E nb) sk i)) (by omega) (by decide) rfl dX0_settle_31 ?_
              refine lv_idiv hx hb dX0_settle_32 (nI_ne0 (by omega) (by omega)) ?_
              refine sp_top (y := nI (c2 i / sp_dg (sp_E nb) sk i)) (pk_div (by omega) (by omega) (by omega)) ?_
              obtain ⟨q, hq⟩ : ∃ q, q = c2 i / sp_dg (sp_E nb) sk i := ⟨_, rfl⟩
              rw [← hq]
              have hqd : q * sp_dg (sp_E nb) sk i ≤ c2 i := by rw [hq]; exact Nat.div_mul_le_self _ _
              have hqb : q ≤ c2 i := by rw [hq]; exact Nat.div_le_self _ _
              refine lv_istore_n (lv' := [(3, .int (nI q)), (0, .ref (ad 0)), (1, .int (nI mv2)), (2, .int (nI i))]) hx hb dX0_settle_33 rfl hl (by decide) rfl (fun ls hl => ?_)
              refine lv_iload_n hx hb dX0_settle_34 rfl (lv_at hl 0 rfl) ?_
              refine sp_if_ne (a := q) (tgt := 41) hx hb dX0_settle_35 (by decide) (by omega) (fun cq => ?_) (fun cq => ?_)
              · skip
                refine lv_iconst (v := nI 1) hx hb dX0_settle_41 (by decide) ?_
                refine lv_istore_n (lv' := [(1, .int (nI 1)), (3, .int (nI q)), (0, .ref (ad 0)), (2, .int (nI i))]) hx hb dX0_settle_42 rfl hl (by decide) rfl (fun ls hl => ?_)
                refine lv_aload_n hx hb dX0_settle_43 rfl (lv_at hl 2 rfl) ?_
                refine lv_dup hx hb dX0_settle_44 rfl ?_
                refine sp_get0 hC hW 5 (by decide) q45 rfl (v := .int (nI t2)) rfl dX0_settle_45 ?_
                refine lv_iload_n hx hb dX0_settle_48 rfl (lv_at hl 1 rfl) ?_
                refine lv_iadd hx hb dX0_settle_49 ?_
                refine sp_top (nI_add _ _) ?_
                refine sp_put0 hC hW 5 (by decide) q45 rfl rfl (ty := .int) (v := .int (nI (t2 + q))) (by decide +kernel) rfl rfl (Nat.le_of_ble_eq_true rfl) dX0_settle_50 (fun H locs hW => ?_)
                have hW : sp_Wd D (sp_wX ad dc (sp_aI nb) (S) (sp_aI (sp_dg (sp_E nb) sk)) (sp_aI c2) (M) (kept) (nI (t2 + q)) (known) (go) (ne)) A s.heap H locs := hW
                refine lv_aload_n hx hb dX0_settle_53 rfl (lv_at hl 2 rfl) ?_
                refine sp_get0 hC hW 3 (by decide) q43 rfl (v := .ref (ad 4)) rfl dX0_settle_54 ?_
                refine lv_iload_n hx hb dX0_settle_57 rfl (lv_at hl 3 rfl) ?_
                refine lv_dup2_11 hx hb dX0_settle_58 rfl rfl ?_
                refine sp_iald hC hW 4 3 rfl rfl (k := i) (v := nI (c2 i)) (by omega) (by decide) rfl dX0_settle_59 ?_
                refine lv_iload_n hx hb dX0_settle_60 rfl (lv_at hl 1 rfl) ?_
                refine lv_aload_n hx hb dX0_settle_61 rfl (lv_at hl 2 rfl) ?_
                refine sp_get0 hC hW 2 (by decide) q42 rfl (v := .ref (ad 3)) rfl dX0_settle_62 ?_
                refine lv_iload_n hx hb dX0_settle_65 rfl (lv_at hl 3 rfl) ?_
                refine sp_bald hC hW 3 2 rfl rfl (k := i) (v := nI (sp_dg (sp_E nb) sk i)) (by omega) (by decide) rfl dX0_settle_66 ?_
                refine lv_imul hx hb dX0_settle_67 ?_
                refine sp_top (pk_mul _ _) ?_
                refine lv_isub hx hb dX0_settle_68 ?_
                refine sp_top (y := nI (c2 i - q * sp_dg (sp_E nb) sk i)) (pk_sub hqd) ?_
                refine sp_iast hC hW 4 3 rfl rfl (k := i) (x := nI (c2 i - q * sp_dg (sp_E nb) sk i)) (by omega) (by decide) (sp_aI (sp_up (c2) (i) (c2 i - q * sp_dg (sp_E nb) sk i))) (sp_aup) dX0_settle_69 (fun H locs hW => ?_)
                have hW : sp_Wd D (sp_wX ad dc (sp_aI nb) (S) (sp_aI (sp_dg (sp_E nb) sk)) (sp_aI (sp_up (c2) (i) (c2 i - q * sp_dg (sp_E nb) sk i))) (M) (kept) (nI (t2 + q)) (known) (go) (ne)) A s.heap H locs := hW
                refine lv_iconst (v := nI 0) hx hb dX0_settle_70 (by decide) ?_
                refine lv_istore (lv' := [(4, .int (nI 0)), (1, .int (nI 1)), (3, .int (nI q)), (0, .ref (ad 0)), (2, .int (nI i))]) hx hb dX0_settle_71 hl (by decide) rfl (fun ls hl => ?_)
                have lb : ∀ (nb_ j : Nat) (g3 : Nat → Nat), j + nb_ = 4 → (∀ k, k < 4 → g3 k = sp_up c2 i (c2 i - q * sp_dg (sp_E nb) sk i) k + (if k < j then q * sp_E nb i k else 0)) → ∀ (H : Heap) (locs : List Loc) (ls : Array Slot), sp_Wd D (sp_wX ad dc (sp_aI nb) (S) (sp_aI (sp_dg (sp_E nb) sk)) (sp_aI g3) (M) (kept) (nI (t2 + q)) (known) (go) (ne)) A s.heap H locs → lv_has ls 5 [(0, .ref (ad 0)), (1, .int (nI 1)), (2, .int (nI i)), (3, .int (nI q)), (4, .int (nI j))] → W pg l ev ({ frames := 0, cells := 0, slots := 0, locals := 0 } : Room) s mi args below meth cd H locs 0 0 Q (F0 mi 73 ls []) := by
                  intro nb_
                  induction nb_ with
                  | zero =>
                    intro j g3 hi_j hg3 H locs ls hW hl
                    refine lv_iload hx hb dX0_settle_73 (lv_at hl 4 rfl) ?_
                    refine lv_iconst (v := nI 4) hx hb dX0_settle_75 (by decide) ?_
                    refine sp_icmp_ge (a := j) (b := 4) (tgt := 110) hx hb dX0_settle_76 (by decide) (by omega) (by omega) (fun c => ?_) (fun c => ?_)
                    · skip
                      refine lv_iinc (v := nI (i + 1)) (lv' := [(2, .int (nI (i + 1))), (0, .ref (ad 0)), (1, .int (nI 1)), (3, .int (nI q)), (4, .int (nI j))]) hx hb dX0_settle_110 hl (k := 2) rfl (nI_1 _) (by decide) rfl (fun ls hl => ?_)
                      refine lv_goto (tgt := 15) hx hb dX0_settle_113 (by decide) ?_
                      have e4 : j = 4 := by omega
                      subst e4
                      have hfire : ∀ k, k < 4 → sp_fire (sp_E nb) sk i q c2 k = g3 k := fun k hk => by
                        rw [hg3 k hk, if_pos hk]
                        simp only [sp_fire, sp_up, if_pos hk]
                        by_cases ek : k = i
                        · rw [if_pos ek, if_pos ek, ek]
                        · rw [if_neg ek, if_neg ek]
                      have hbt := sp_batch hok.G (show i < 4 by omega) q hqd
                      have hbt := sp_Leg_cr _ hfire hbt
                      have hbl := sp_Leg_tot hok.G _ hbt
                      rw [List.length_replicate] at hbl
                      exact iha (i + 1) g3 (t2 + q) 1 (L2 ++ List.replicate q i) (by omega) (by omega) (fun _ => by omega) (by omega) (fun z => by omega) (sp_Leg_app _ _ hleg2 hbt) (by rw [List.length_append, List.length_replicate, ht2]) _ _ _ hW (lv_sub hl [1, 2, 0] rfl)
                    · skip
                      exfalso; omega
                  | succ nb_ ihb =>
                    intro j g3 hi_j hg3 H locs ls hW hl
                    refine lv_iload hx hb dX0_settle_73 (lv_at hl 4 rfl) ?_
                    refine lv_iconst (v := nI 4) hx hb dX0_settle_75 (by decide) ?_
                    refine sp_icmp_ge (a := j) (b := 4) (tgt := 110) hx hb dX0_settle_76 (by decide) (by omega) (by omega) (fun c => ?_) (fun c => ?_)
                    · skip
                      exfalso; omega
                    · skip
                      refine lv_aload_n hx hb dX0_settle_79 rfl (lv_at hl 0 rfl) ?_
                      refine sp_get0 hC hW 0 (by decide) q40 rfl (v := .ref (ad 1)) rfl dX0_settle_80 ?_
                      refine lv_iload_n hx hb dX0_settle_83 rfl (lv_at hl 2 rfl) ?_
                      refine sp_bald hC hW 1 0 rfl rfl (k := i) (v := nI (nb i)) (by omega) (by decide) rfl dX0_settle_84 ?_
                      refine lv_iload hx hb dX0_settle_85 (lv_at hl 4 rfl) ?_
                      refine lv_ishr hx hb dX0_settle_87 ?_
                      refine lv_iconst (v := nI 1) hx hb dX0_settle_88 (by decide) ?_
                      refine lv_iand hx hb dX0_settle_89 ?_
                      refine sp_top (y := nI (sp_E nb i j)) (sp_bit (by have := (hok.1 i (by omega)).1; omega) (by omega)) ?_
                      have he1 := sp_E1 nb i j
                      refine sp_if_eq (a := sp_E nb i j) (tgt := 104) hx hb dX0_settle_90 (by decide) (by omega) (fun ce => ?_) (fun ce => ?_)
                      · skip
                        refine lv_iinc (v := nI (j + 1)) (lv' := [(4, .int (nI (j + 1))), (0, .ref (ad 0)), (1, .int (nI 1)), (2, .int (nI i)), (3, .int (nI q))]) hx hb dX0_settle_104 hl (k := 4) rfl (nI_1 _) (by decide) rfl (fun ls hl => ?_)
                        refine lv_goto (tgt := 73) hx hb dX0_settle_107 (by decide) ?_
                        have hg4 : ∀ k, k < 4 → g3 k = sp_up c2 i (c2 i - q * sp_dg (sp_E nb) sk i) k + (if k < j + 1 then q * sp_E nb i k else 0) := by
                          intro k hk
                          rw [hg3 k hk]
                          by_cases ek : k = j
                          · subst ek; rw [if_neg (by omega), if_pos (by omega), ce, Nat.mul_zero]
                          · rcases Nat.lt_or_ge k j with z | z
                            · rw [if_pos z, if_pos (by omega)]
                            · rw [if_neg (by omega), if_neg (by omega)]
                        exact ihb (j + 1) g3 (by omega) hg4 _ _ _ hW (lv_sub hl [1, 2, 3, 4, 0] rfl)
                      · skip
                        refine lv_aload_n hx hb dX0_settle_93 rfl (lv_at hl 0 rfl) ?_
                        refine sp_get0 hC hW 3 (by decide) q43 rfl (v := .ref (ad 4)) rfl dX0_settle_94 ?_
                        refine lv_iload hx hb dX0_settle_97 (lv_at hl 4 rfl) ?_
                        refine lv_dup2_11 hx hb dX0_settle_99 rfl rfl ?_
                        refine sp_iald hC hW 4 3 rfl rfl (k := j) (v := nI (g3 j)) (by omega) (by decide) rfl dX0_settle_100 ?_
                        refine lv_iload_n hx hb dX0_settle_101 rfl (lv_at hl 3 rfl) ?_
                        refine lv_iadd hx hb dX0_settle_102 ?_
                        refine sp_top (nI_add _ _) ?_
                        refine sp_iast hC hW 4 3 rfl rfl (k := j) (x := nI (g3 j + q)) (by omega) (by decide) (sp_aI (sp_up (g3) (j) (g3 j + q))) (sp_aup) dX0_settle_103 (fun H locs hW => ?_)
                        have hW : sp_Wd D (sp_wX ad dc (sp_aI nb) (S) (sp_aI (sp_dg (sp_E nb) sk)) (sp_aI (sp_up (g3) (j) (g3 j + q))) (M) (kept) (nI (t2 + q)) (known) (go) (ne)) A s.heap H locs := hW
                        refine lv_iinc (v := nI (j + 1)) (lv' := [(4, .int (nI (j + 1))), (0, .ref (ad 0)), (1, .int (nI 1)), (2, .int (nI i)), (3, .int (nI q))]) hx hb dX0_settle_104 hl (k := 4) rfl (nI_1 _) (by decide) rfl (fun ls hl => ?_)
                        refine lv_goto (tgt := 73) hx hb dX0_settle_107 (by decide) ?_
                        have hg4 : ∀ k, k < 4 → sp_up g3 j (g3 j + q) k = sp_up c2 i (c2 i - q * sp_dg (sp_E nb) sk i) k + (if k < j + 1 then q * sp_E nb i k else 0) := by
                          intro k hk
                          have h0 := hg3 k hk
                          by_cases ek : k = j
                          · subst ek
                            rw [if_neg (by omega)] at h0
                            show (if k = k then g3 k + q else g3 k) = _
                            rw [if_pos rfl, if_pos (by omega), show sp_E nb i k = 1 by omega]
                            omega
                          · show (if k = j then g3 j + q else g3 k) = _
                            rw [if_neg ek, h0]
                            rcases Nat.lt_or_ge k j with z | z
                            · rw [if_pos z, if_pos (by omega)]
                            · rw [if_neg (by omega), if_neg (by omega)]
                        exact ihb (j + 1) (sp_up g3 j (g3 j + q)) (by omega) hg4 _ _ _ hW (lv_sub hl [1, 2, 3, 4, 0] rfl)
                exact lb 4 0 _ (by omega) (fun k hk => by rw [if_neg (by omega), Nat.add_zero]) _ _ _ hW (lv_sub hl [3, 1, 4, 2, 0] rfl)
              · skip
                refine lv_goto (tgt := 110) hx hb dX0_settle_38 (by decide) ?_
                refine lv_iinc (v := nI (i + 1)) (lv' := [(2, .int (nI (i + 1))), (3, .int (nI q)), (0, .ref (ad 0)), (1, .int (nI mv2))]) hx hb dX0_settle_110 hl (k := 3) rfl (nI_1 _) (by decide) rfl (fun ls hl => ?_)
                refine lv_goto (tgt := 15) hx hb dX0_settle_113 (by decide) ?_
                exact iha (i + 1) c2 t2 mv2 L2 (by omega) hmv2b hmv2 hle (fun z => lt_s (hz z) (by rw [hq] at cq; exact Nat.lt_of_div_eq_zero (by omega) cq)) hleg2 ht2 _ _ _ hW (lv_sub hl [2, 3, 0] rfl)
        exact la 4 0 c1 t 0 L (by omega) (by omega) (fun z => by omega) (Nat.le_refl _) (fun _ => lt_0) hleg ht _ _ _ hW (lv_sub hl [2, 1, 0] rfl)
  exact wl (sp_tot c0 + 1) c0 0 1 [] (by omega) (by omega) (fun z => by omega) (fun _ _ => rfl) rfl _ _ _ hW (lv_sub hl [1, 0] rfl)
end
section
set_option maxRecDepth 100000
def sp_dp (nb sk : Nat → Nat) (a : Nat) : Nat → Nat
  | 0 => sk a
  | j + 1 => sp_dp nb sk a j + sp_E nb a j
theorem sp_dp4 (nb sk : Nat → Nat) (a : Nat) : sp_dp nb sk a 4 = sp_dg (sp_E nb) sk a := by
  simp only [sp_dp, sp_dg]; omega
set_option maxHeartbeats 4000000 in
set_option maxRecDepth 100000 in
/-- changeGraph -/
theorem metX0_changeGraph (l : Launch) (D : va_G) (ad : Nat → Nat) (dc : Nat → ClassId) (nb sk : Nat → Nat) (hok : sp_Ok nb sk) (Dg G M : Nat → Int32) (kept top known go ne : Int32) : sp_MV l D (sp_tX dc) yX0_changeGraph cX0_changeGraph 4 ({ frames := 0, cells := 0, slots := 0, locals := 0 } : Room) [.ref (ad 0)] (sp_wX ad dc (sp_aI nb) (sp_aI sk) (Dg) (G) (M) (kept) (top) (known) (go) (ne)) (S := Unit) (fun _ => True) (fun _ => sp_wX ad dc (sp_aI nb) (sp_aI sk) (sp_aI (sp_dg (sp_E nb) sk)) (G) (M) (nI 0) (top) (nI 0) (go) (ne)) := by
  refine sp_entV (own := RX0) (by decide) rfl (Nat.le_of_ble_eq_true rfl) ?_
  intro pg ev s mi args below meth cd A Q ls hC hW hret hl
  obtain ⟨hx, hb, -⟩ := id hC
  have hl : lv_has ls 4 [(0, .ref (ad 0))] := hl
  refine lv_aload_n hx hb dX0_changeGraph_0 rfl (lv_at hl 0 rfl) ?_
  refine lv_iconst (v := nI 0) hx hb dX0_changeGraph_1 (by decide) ?_
  refine sp_put0 hC hW 4 (by decide) q44 rfl rfl (ty := .int) (v := .int (nI 0)) (by decide +kernel) rfl rfl (Nat.le_of_ble_eq_true rfl) dX0_changeGraph_2 (fun H locs hW => ?_)
  have hW : sp_Wd D (sp_wX ad dc (sp_aI nb) (sp_aI sk) (Dg) (G) (M) (nI 0) (top) (known) (go) (ne)) A s.heap H locs := hW
  refine lv_aload_n hx hb dX0_changeGraph_5 rfl (lv_at hl 0 rfl) ?_
  refine lv_iconst (v := nI 0) hx hb dX0_changeGraph_6 (by decide) ?_
  refine sp_put0 hC hW 6 (by decide) q46 rfl rfl (ty := .boolean) (v := .int (nI 0)) (by decide +kernel) (by decide) (by decide) (Nat.le_of_ble_eq_true rfl) dX0_changeGraph_7 (fun H locs hW => ?_)
  have hW : sp_Wd D (sp_wX ad dc (sp_aI nb) (sp_aI sk) (Dg) (G) (M) (nI 0) (top) (nI 0) (go) (ne)) A s.heap H locs := hW
  refine lv_iconst (v := nI 0) hx hb dX0_changeGraph_10 (by decide) ?_
  refine lv_istore_n (lv' := [(1, .int (nI 0)), (0, .ref (ad 0))]) hx hb dX0_changeGraph_11 rfl hl (by decide) rfl (fun ls hl => ?_)
  have la : ∀ (na i : Nat) (g1 : Nat → Int32), i + na = 4 → (∀ k, k < i → g1 k = nI (sp_dg (sp_E nb) sk k)) → ∀ (H : Heap) (locs : List Loc) (ls : Array Slot), sp_Wd D (sp_wX ad dc (sp_aI nb) (sp_aI sk) (g1) (G) (M) (nI 0) (top) (nI 0) (go) (ne)) A s.heap H locs → lv_has ls 4 [(0, .ref (ad 0)), (1, .int (nI i))] → W pg l ev ({ frames := 0, cells := 0, slots := 0, locals := 0 } : Room) s mi args below meth cd H locs 0 0 Q (F0 mi 12 ls []) := by
    intro na
    induction na with
    | zero =>
      intro i g1 hi_i hg H locs ls hW hl
      refine lv_iload_n hx hb dX0_changeGraph_12 rfl (lv_at hl 1 rfl) ?_
      refine lv_iconst (v := nI 4) hx hb dX0_changeGraph_13 (by decide) ?_
      refine sp_icmp_ge (a := i) (b := 4) (tgt := 64) hx hb dX0_changeGraph_14 (by decide) (by omega) (by omega) (fun c => ?_) (fun c => ?_)
      · skip
        have hW := hW.arr 3 rfl (sp_aI (sp_dg (sp_E nb) sk)) (fun j hj => hg j (by omega))
        exact hret _ _ _ _ (()) dX0_changeGraph_64 (trivial) hW
      · skip
        exfalso; omega
    | succ na iha =>
      intro i g1 hi_i hg H locs ls hW hl
      refine lv_iload_n hx hb dX0_changeGraph_12 rfl (lv_at hl 1 rfl) ?_
      refine lv_iconst (v := nI 4) hx hb dX0_changeGraph_13 (by decide) ?_
      refine sp_icmp_ge (a := i) (b := 4) (tgt := 64) hx hb dX0_changeGraph_14 (by decide) (by omega) (by omega) (fun c => ?_) (fun c => ?_)
      · skip
        exfalso; omega
      · skip
        refine lv_aload_n hx hb dX0_changeGraph_17 rfl (lv_at hl 0 rfl) ?_
        refine sp_get0 hC hW 1 (by decide) q41 rfl (v := .ref (ad 2)) rfl dX0_changeGraph_18 ?_
        refine lv_iload_n hx hb dX0_changeGraph_21 rfl (lv_at hl 1 rfl) ?_
        refine sp_bald hC hW 2 1 rfl rfl (k := i) (v := nI (sk i)) (by omega) (by decide) rfl dX0_changeGraph_22 ?_
        refine lv_istore_n (lv' := [(2, .int (nI (sk i))), (0, .ref (ad 0)), (1, .int (nI i))]) hx hb dX0_changeGraph_23 rfl hl (by decide) rfl (fun ls hl => ?_)
        refine lv_iconst (v := nI 0) hx hb dX0_changeGraph_24 (by decide) ?_
        refine lv_istore_n (lv' := [(3, .int (nI 0)), (2, .int (nI (sk i))), (0, .ref (ad 0)), (1, .int (nI i))]) hx hb dX0_changeGraph_25 rfl hl (by decide) rfl (fun ls hl => ?_)
        have lb : ∀ (nb_ j : Nat) , j + nb_ = 4 → ∀ (H : Heap) (locs : List Loc) (ls : Array Slot), sp_Wd D (sp_wX ad dc (sp_aI nb) (sp_aI sk) (g1) (G) (M) (nI 0) (top) (nI 0) (go) (ne)) A s.heap H locs → lv_has ls 4 [(0, .ref (ad 0)), (1, .int (nI i)), (2, .int (nI (sp_dp nb sk i j))), (3, .int (nI j))] → W pg l ev ({ frames := 0, cells := 0, slots := 0, locals := 0 } : Room) s mi args below meth cd H locs 0 0 Q (F0 mi 26 ls []) := by
          intro nb_
          induction nb_ with
          | zero =>
            intro j hi_j H locs ls hW hl
            refine lv_iload_n hx hb dX0_changeGraph_26 rfl (lv_at hl 3 rfl) ?_
            refine lv_iconst (v := nI 4) hx hb dX0_changeGraph_27 (by decide) ?_
            refine sp_icmp_ge (a := j) (b := 4) (tgt := 50) hx hb dX0_changeGraph_28 (by decide) (by omega) (by omega) (fun c => ?_) (fun c => ?_)
            · skip
              refine lv_aload_n hx hb dX0_changeGraph_50 rfl (lv_at hl 0 rfl) ?_
              refine sp_get0 hC hW 2 (by decide) q42 rfl (v := .ref (ad 3)) rfl dX0_changeGraph_51 ?_
              refine lv_iload_n hx hb dX0_changeGraph_54 rfl (lv_at hl 1 rfl) ?_
              refine lv_iload_n hx hb dX0_changeGraph_55 rfl (lv_at hl 2 rfl) ?_
              have e4 : j = 4 := by omega
              subst e4
              have hd5 := hok.dg5 i (by omega)
              have hd4 : sp_dp nb sk i 4 = sp_dg (sp_E nb) sk i := sp_dp4 nb sk i
              refine sp_top (y := nI (sp_dg (sp_E nb) sk i)) (congrArg nI hd4) ?_
              refine lv_i2b (v := nI (sp_dg (sp_E nb) sk i)) hx hb dX0_changeGraph_56 (sp_i2b _ (by omega)) ?_
              refine sp_bast hC hW 3 2 rfl rfl (k := i) (x := nI (sp_dg (sp_E nb) sk i)) (by omega) (by decide) (sp_nrb _ (by omega)) (fun j => if j = i then nI (sp_dg (sp_E nb) sk i) else g1 j) (fun _ _ => rfl) dX0_changeGraph_57 (fun H locs hW => ?_)
              have hW : sp_Wd D (sp_wX ad dc (sp_aI nb) (sp_aI sk) (fun j => if j = i then nI (sp_dg (sp_E nb) sk i) else g1 j) (G) (M) (nI 0) (top) (nI 0) (go) (ne)) A s.heap H locs := hW
              refine lv_iinc (v := nI (i + 1)) (lv' := [(1, .int (nI (i + 1))), (0, .ref (ad 0)), (2, .int (nI (sp_dp nb sk i 4))), (3, .int (nI 4))]) hx hb dX0_changeGraph_58 hl (k := 1) rfl (nI_1 _) (by decide) rfl (fun ls hl => ?_)
              refine lv_goto (tgt := 12) hx hb dX0_changeGraph_61 (by decide) ?_
              exact iha (i + 1) _ (by omega) (lt_s (fun k hk => by show (if k = i then _ else g1 k) = _; rw [if_neg (by omega)]; exact hg k hk) (by show (if i = i then _ else _) = _; rw [if_pos rfl])) _ _ _ hW (lv_sub hl [1, 0] rfl)
            · skip
              exfalso; omega
          | succ nb_ ihb =>
            intro j hi_j H locs ls hW hl
            refine lv_iload_n hx hb dX0_changeGraph_26 rfl (lv_at hl 3 rfl) ?_
            refine lv_iconst (v := nI 4) hx hb dX0_changeGraph_27 (by decide) ?_
            refine sp_icmp_ge (a := j) (b := 4) (tgt := 50) hx hb dX0_changeGraph_28 (by decide) (by omega) (by omega) (fun c => ?_) (fun c => ?_)
            · skip
              exfalso; omega
            · skip
              refine lv_iload_n hx hb dX0_changeGraph_31 rfl (lv_at hl 2 rfl) ?_
              refine lv_aload_n hx hb dX0_changeGraph_32 rfl (lv_at hl 0 rfl) ?_
              refine sp_get0 hC hW 0 (by decide) q40 rfl (v := .ref (ad 1)) rfl dX0_changeGraph_33 ?_
              refine lv_iload_n hx hb dX0_changeGraph_36 rfl (lv_at hl 1 rfl) ?_
              refine sp_bald hC hW 1 0 rfl rfl (k := i) (v := nI (nb i)) (by omega) (by decide) rfl dX0_changeGraph_37 ?_
              refine lv_iload_n hx hb dX0_changeGraph_38 rfl (lv_at hl 3 rfl) ?_
              refine lv_ishr hx hb dX0_changeGraph_39 ?_
              refine lv_iconst (v := nI 1) hx hb dX0_changeGraph_40 (by decide) ?_
              refine lv_iand hx hb dX0_changeGraph_41 ?_
              refine sp_top (y := nI (sp_E nb i j)) (sp_bit (by have := (hok.1 i (by omega)).1; omega) (by omega)) ?_
              refine lv_iadd hx hb dX0_changeGraph_42 ?_
              refine sp_top (y := nI (sp_dp nb sk i j + (sp_E nb i j))) (nI_add _ _) ?_
              refine sp_top (y := nI (sp_dp nb sk i (j + 1))) (rfl) ?_
              refine lv_istore_n (lv' := [(2, .int (nI (sp_dp nb sk i (j + 1)))), (0, .ref (ad 0)), (1, .int (nI i)), (3, .int (nI j))]) hx hb dX0_changeGraph_43 rfl hl (by decide) rfl (fun ls hl => ?_)
              refine lv_iinc (v := nI (j + 1)) (lv' := [(3, .int (nI (j + 1))), (2, .int (nI (sp_dp nb sk i (j + 1)))), (0, .ref (ad 0)), (1, .int (nI i))]) hx hb dX0_changeGraph_44 hl (k := 3) rfl (nI_1 _) (by decide) rfl (fun ls hl => ?_)
              refine lv_goto (tgt := 26) hx hb dX0_changeGraph_47 (by decide) ?_
              exact ihb (j + 1) (by omega) _ _ _ hW (lv_sub hl [2, 3, 1, 0] rfl)
        exact lb 4 0 (by omega) _ _ _ hW (lv_sub hl [2, 3, 1, 0] rfl)
  exact la 4 0 Dg (by omega) lt_0 _ _ _ hW (lv_sub hl [1, 0] rfl)
set_option maxHeartbeats 4000000 in
set_option maxRecDepth 100000 in
/-- settledMultiple -/
theorem metX0_settledMultiple (l : Launch) (D : va_G) (ad : Nat → Nat) (dc : Nat → ClassId) (nb sk : Nat → Nat) (hok : sp_Ok nb sk) (G S M : Nat → Int32) (kept top known go ne : Int32) (q : Nat) (hq : q ≤ 1000) : sp_MI l D (sp_tX dc) yX0_settledMultiple cX0_settledMultiple 3 .int ({ frames := 1, cells := 0, slots := 0, locals := 24 } : Room) [.ref (ad 0), .int (nI q)] (sp_wX ad dc (sp_aI nb) (S) (sp_aI (sp_dg (sp_E nb) sk)) (G) (M) (kept) (top) (known) (go) (ne)) (S := (Nat → Int32) × Int32) (fun r _ => r = nI (sp_sp nb sk (fun k => q * sp_fl nb sk k))) (fun u => sp_wX ad dc (sp_aI nb) (S) (sp_aI (sp_dg (sp_E nb) sk)) (u.1) (M) (kept) (u.2) (known) (go) (ne)) := by
  refine sp_entI (own := RX0) (by decide) rfl (Nat.le_of_ble_eq_true rfl) ?_
  intro pg ev s mi args below meth cd A Q ls hC hW hret hl
  obtain ⟨hx, hb, -⟩ := id hC
  have hl : lv_has ls 3 [(0, .ref (ad 0)), (1, .int (nI q))] := hl
  refine lv_iconst (v := nI 0) hx hb dX0_settledMultiple_0 (by decide) ?_
  refine lv_istore_n (lv' := [(2, .int (nI 0)), (0, .ref (ad 0)), (1, .int (nI q))]) hx hb dX0_settledMultiple_1 rfl hl (by decide) rfl (fun ls hl => ?_)
  have loop : ∀ (n i : Nat) (g1 : Nat → Int32), i + n = 4 → (∀ k, k < i → g1 k = nI (q * sp_fl nb sk k)) → ∀ (H : Heap) (locs : List Loc) (ls : Array Slot), sp_Wd D (sp_wX ad dc (sp_aI nb) (S) (sp_aI (sp_dg (sp_E nb) sk)) (g1) (M) (kept) (top) (known) (go) (ne)) A s.heap H locs → lv_has ls 3 [(0, .ref (ad 0)), (1, .int (nI q)), (2, .int (nI i))] → W pg l ev ({ frames := 1, cells := 0, slots := 0, locals := 24 } : Room) s mi args below meth cd H locs 0 0 Q (F0 mi 2 ls []) := by
    intro n
    induction n with
    | zero =>
      intro i g1 hi_i hg H locs ls hW hl
      refine lv_iload_n hx hb dX0_settledMultiple_2 rfl (lv_at hl 2 rfl) ?_
      refine lv_iconst (v := nI 4) hx hb dX0_settledMultiple_3 (by decide) ?_
      refine sp_icmp_ge (a := i) (b := 4) (tgt := 29) hx hb dX0_settledMultiple_4 (by decide) (by omega) (by omega) (fun c => ?_) (fun c => ?_)
      · skip
        refine lv_aload_n hx hb dX0_settledMultiple_29 rfl (lv_at hl 0 rfl) ?_
        have hW := hW.arr 4 rfl (sp_aI (fun k => q * sp_fl nb sk k)) (fun j hj => hg j (by omega))
        have hW : sp_Wd D (sp_wX ad dc (sp_aI nb) (S) (sp_aI (sp_dg (sp_E nb) sk)) (sp_aI (fun k => q * sp_fl nb sk k)) (M) (kept) (top) (known) (go) (ne)) A s.heap H locs := hW
        have htt : sp_tot (fun k => q * sp_fl nb sk k) ≤ 1048576 := by
          have h0 := hok.dg5 0 (by decide)
          have h1 := hok.dg5 1 (by decide)
          have h2 := hok.dg5 2 (by decide)
          have h3 := hok.dg5 3 (by decide)
          have g0 : q * sp_fl nb sk 0 ≤ 1000 * 4 := Nat.mul_le_mul hq (by simp only [sp_fl]; omega)
          have g1 : q * sp_fl nb sk 1 ≤ 1000 * 4 := Nat.mul_le_mul hq (by simp only [sp_fl]; omega)
          have g2 : q * sp_fl nb sk 2 ≤ 1000 * 4 := Nat.mul_le_mul hq (by simp only [sp_fl]; omega)
          have g3 : q * sp_fl nb sk 3 ≤ 1000 * 4 := Nat.mul_le_mul hq (by simp only [sp_fl]; omega)
          simp only [sp_tot]; omega
        refine sp_callV (n := 0) (rest := []) hC hW (metX0_settle l D ad dc nb sk hok (fun k => q * sp_fl nb sk k) (htt) _ _ _ _ _ _ _) q101 q103 qs4 q30 q104 rfl rfl rfl (by decide +kernel) ⟨by decide, by decide⟩ rfl hl rfl (Nat.le_of_ble_eq_true rfl) ⟨Nat.zero_le _, Nat.zero_le _⟩ dX0_settledMultiple_30 (fun u H locs hp hW => ?_)
        have hW : sp_Wd D (sp_wX ad dc (sp_aI nb) (S) (sp_aI (sp_dg (sp_E nb) sk)) (sp_aI (sp_st (sp_E nb) sk (fun k => q * sp_fl nb sk k))) (M) (kept) (nI (sp_ct (sp_E nb) sk (fun k => q * sp_fl nb sk k))) (known) (go) (ne)) A s.heap H locs := hW
        refine lv_aload_n hx hb dX0_settledMultiple_33 rfl (lv_at hl 0 rfl) ?_
        refine sp_callI (n := 0) (rest := []) hC hW (metX0_packed l D ad dc _ (sp_st (sp_E nb) sk (fun k => q * sp_fl nb sk k)) _ _ _ _ _ _ _ _) q105 q107 qs5 q30 q108 rfl rfl rfl (by decide +kernel) ⟨by decide, by decide⟩ rfl hl rfl (Nat.le_of_ble_eq_true rfl) ⟨Nat.zero_le _, Nat.zero_le _⟩ dX0_settledMultiple_34 (fun r u H locs hp hW => ?_)
        have hp : r = nI (sp_pk (sp_st (sp_E nb) sk (fun k => q * sp_fl nb sk k))) := hp
        subst hp
        have hW : sp_Wd D (sp_wX ad dc (sp_aI nb) (S) (sp_aI (sp_dg (sp_E nb) sk)) (sp_aI (sp_st (sp_E nb) sk (fun k => q * sp_fl nb sk k))) (M) (kept) (nI (sp_ct (sp_E nb) sk (fun k => q * sp_fl nb sk k))) (known) (go) (ne)) A s.heap H locs := hW
        exact hret _ _ _ _ _ ((_, _)) dX0_settledMultiple_37 (rfl) (rfl) hW
      · skip
        exfalso; omega
    | succ n ih =>
      intro i g1 hi_i hg H locs ls hW hl
      refine lv_iload_n hx hb dX0_settledMultiple_2 rfl (lv_at hl 2 rfl) ?_
      refine lv_iconst (v := nI 4) hx hb dX0_settledMultiple_3 (by decide) ?_
      refine sp_icmp_ge (a := i) (b := 4) (tgt := 29) hx hb dX0_settledMultiple_4 (by decide) (by omega) (by omega) (fun c => ?_) (fun c => ?_)
      · skip
        exfalso; omega
      · skip
        have hd1 := hok.dg1 i (by omega)
        refine lv_aload_n hx hb dX0_settledMultiple_7 rfl (lv_at hl 0 rfl) ?_
        refine sp_get0 hC hW 3 (by decide) q43 rfl (v := .ref (ad 4)) rfl dX0_settledMultiple_8 ?_
        refine lv_iload_n hx hb dX0_settledMultiple_11 rfl (lv_at hl 2 rfl) ?_
        refine lv_iload_n hx hb dX0_settledMultiple_12 rfl (lv_at hl 1 rfl) ?_
        refine lv_aload_n hx hb dX0_settledMultiple_13 rfl (lv_at hl 0 rfl) ?_
        refine sp_get0 hC hW 2 (by decide) q42 rfl (v := .ref (ad 3)) rfl dX0_settledMultiple_14 ?_
        refine lv_iload_n hx hb dX0_settledMultiple_17 rfl (lv_at hl 2 rfl) ?_
        refine sp_bald hC hW 3 2 rfl rfl (k := i) (v := nI (sp_dg (sp_E nb) sk i)) (by omega) (by decide) rfl dX0_settledMultiple_18 ?_
        refine lv_iconst (v := nI 1) hx hb dX0_settledMultiple_19 (by decide) ?_
        refine lv_isub hx hb dX0_settledMultiple_20 ?_
        refine sp_top (y := nI (sp_fl nb sk i)) (pk_sub hd1) ?_
        refine lv_imul hx hb dX0_settledMultiple_21 ?_
        refine sp_top (y := nI (q * (sp_fl nb sk i))) (pk_mul _ _) ?_
        refine sp_iast hC hW 4 3 rfl rfl (k := i) (x := nI (q * (sp_fl nb sk i))) (by omega) (by decide) (fun j => if j = i then nI (q * sp_fl nb sk i) else g1 j) (fun _ _ => rfl) dX0_settledMultiple_22 (fun H locs hW => ?_)
        have hW : sp_Wd D (sp_wX ad dc (sp_aI nb) (S) (sp_aI (sp_dg (sp_E nb) sk)) (fun j => if j = i then nI (q * sp_fl nb sk i) else g1 j) (M) (kept) (top) (known) (go) (ne)) A s.heap H locs := hW
        refine lv_iinc (v := nI (i + 1)) (lv' := [(2, .int (nI (i + 1))), (0, .ref (ad 0)), (1, .int (nI q))]) hx hb dX0_settledMultiple_23 hl (k := 2) rfl (nI_1 _) (by decide) rfl (fun ls hl => ?_)
        refine lv_goto (tgt := 2) hx hb dX0_settledMultiple_26 (by decide) ?_
        exact ih (i + 1) _ (by omega) (lt_s (fun k hk => by show (if k = i then _ else g1 k) = _; rw [if_neg (by omega)]; exact hg k hk) (by show (if i = i then _ else _) = _; rw [if_pos rfl])) _ _ _ hW (lv_sub hl [1, 2, 0] rfl)
  exact loop 4 0 G (by omega) lt_0 _ _ _ hW (lv_sub hl [1, 2, 0] rfl)
set_option maxHeartbeats 4000000 in
set_option maxRecDepth 100000 in
/-- added -/
theorem metX0_added (l : Launch) (D : va_G) (ad : Nat → Nat) (dc : Nat → ClassId) (nb sk : Nat → Nat) (hok : sp_Ok nb sk) (G S M : Nat → Int32) (kept top known go ne : Int32) (x y : Nat) (hx0 : x < 4096) (hy0 : y < 4096) : sp_MI l D (sp_tX dc) yX0_added cX0_added 6 .int ({ frames := 1, cells := 0, slots := 0, locals := 24 } : Room) [.ref (ad 0), .int (nI x), .int (nI y)] (sp_wX ad dc (sp_aI nb) (S) (sp_aI (sp_dg (sp_E nb) sk)) (G) (M) (kept) (top) (known) (go) (ne)) (S := (Nat → Int32) × Int32) (fun r _ => r = nI (sp_ad nb sk x y)) (fun u => sp_wX ad dc (sp_aI nb) (S) (sp_aI (sp_dg (sp_E nb) sk)) (u.1) (M) (kept) (u.2) (known) (go) (ne)) := by
  refine sp_entI (own := RX0) (by decide) rfl (Nat.le_of_ble_eq_true rfl) ?_
  intro pg ev s mi args below meth cd A Q ls hC hW hret hl
  obtain ⟨hx, hb, -⟩ := id hC
  have hl : lv_has ls 6 [(0, .ref (ad 0)), (1, .int (nI x)), (2, .int (nI y))] := hl
  refine lv_iconst (v := nI 0) hx hb dX0_added_0 (by decide) ?_
  refine lv_istore_n (lv' := [(3, .int (nI 0)), (0, .ref (ad 0)), (1, .int (nI x)), (2, .int (nI y))]) hx hb dX0_added_1 rfl hl (by decide) rfl (fun ls hl => ?_)
  have loop : ∀ (n i : Nat) (g1 : Nat → Int32), i + n = 4 → (∀ k, k < i → g1 k = nI (sp_dt x k + sp_dt y k)) → ∀ (H : Heap) (locs : List Loc) (ls : Array Slot), sp_Wd D (sp_wX ad dc (sp_aI nb) (S) (sp_aI (sp_dg (sp_E nb) sk)) (g1) (M) (kept) (top) (known) (go) (ne)) A s.heap H locs → lv_has ls 6 [(0, .ref (ad 0)), (1, .int (nI x)), (2, .int (nI y)), (3, .int (nI i))] → W pg l ev ({ frames := 1, cells := 0, slots := 0, locals := 24 } : Room) s mi args below meth cd H locs 0 0 Q (F0 mi 2 ls []) := by
    intro n
    induction n with
    | zero =>
      intro i g1 hi_i hg H locs ls hW hl
      refine lv_iload_n hx hb dX0_added_2 rfl (lv_at hl 3 rfl) ?_
      refine lv_iconst (v := nI 4) hx hb dX0_added_3 (by decide) ?_
      refine sp_icmp_ge (a := i) (b := 4) (tgt := 40) hx hb dX0_added_4 (by decide) (by omega) (by omega) (fun c => ?_) (fun c => ?_)
      · skip
        refine lv_aload_n hx hb dX0_added_40 rfl (lv_at hl 0 rfl) ?_
        have hW := hW.arr 4 rfl (sp_aI (fun k => sp_dt x k + sp_dt y k)) (fun j hj => hg j (by omega))
        have hW : sp_Wd D (sp_wX ad dc (sp_aI nb) (S) (sp_aI (sp_dg (sp_E nb) sk)) (sp_aI (fun k => sp_dt x k + sp_dt y k)) (M) (kept) (top) (known) (go) (ne)) A s.heap H locs := hW
        have htt : sp_tot (fun k => sp_dt x k + sp_dt y k) ≤ 1048576 := by
          have h0 := sp_dt_lt x 0
          have h1 := sp_dt_lt x 1
          have h2 := sp_dt_lt x 2
          have h3 := sp_dt_lt x 3
          have g0 := sp_dt_lt y 0
          have g1 := sp_dt_lt y 1
          have g2 := sp_dt_lt y 2
          have g3 := sp_dt_lt y 3
          simp only [sp_tot]; omega
        refine sp_callV (n := 0) (rest := []) hC hW (metX0_settle l D ad dc nb sk hok (fun k => sp_dt x k + sp_dt y k) (htt) _ _ _ _ _ _ _) q101 q103 qs4 q30 q104 rfl rfl rfl (by decide +kernel) ⟨by decide, by decide⟩ rfl hl rfl (Nat.le_of_ble_eq_true rfl) ⟨Nat.zero_le _, Nat.zero_le _⟩ dX0_added_41 (fun u H locs hp hW => ?_)
        have hW : sp_Wd D (sp_wX ad dc (sp_aI nb) (S) (sp_aI (sp_dg (sp_E nb) sk)) (sp_aI (sp_st (sp_E nb) sk (fun k => sp_dt x k + sp_dt y k))) (M) (kept) (nI (sp_ct (sp_E nb) sk (fun k => sp_dt x k + sp_dt y k))) (known) (go) (ne)) A s.heap H locs := hW
        refine lv_aload_n hx hb dX0_added_44 rfl (lv_at hl 0 rfl) ?_
        refine sp_callI (n := 0) (rest := []) hC hW (metX0_packed l D ad dc _ (sp_st (sp_E nb) sk (fun k => sp_dt x k + sp_dt y k)) _ _ _ _ _ _ _ _) q105 q107 qs5 q30 q108 rfl rfl rfl (by decide +kernel) ⟨by decide, by decide⟩ rfl hl rfl (Nat.le_of_ble_eq_true rfl) ⟨Nat.zero_le _, Nat.zero_le _⟩ dX0_added_45 (fun r u H locs hp hW => ?_)
        have hp : r = nI (sp_pk (sp_st (sp_E nb) sk (fun k => sp_dt x k + sp_dt y k))) := hp
        subst hp
        have hW : sp_Wd D (sp_wX ad dc (sp_aI nb) (S) (sp_aI (sp_dg (sp_E nb) sk)) (sp_aI (sp_st (sp_E nb) sk (fun k => sp_dt x k + sp_dt y k))) (M) (kept) (nI (sp_ct (sp_E nb) sk (fun k => sp_dt x k + sp_dt y k))) (known) (go) (ne)) A s.heap H locs := hW
        exact hret _ _ _ _ _ ((_, _)) dX0_added_48 (rfl) (rfl) hW
      · skip
        exfalso; omega
    | succ n ih =>
      intro i g1 hi_i hg H locs ls hW hl
      refine lv_iload_n hx hb dX0_added_2 rfl (lv_at hl 3 rfl) ?_
      refine lv_iconst (v := nI 4) hx hb dX0_added_3 (by decide) ?_
      refine sp_icmp_ge (a := i) (b := 4) (tgt := 40) hx hb dX0_added_4 (by decide) (by omega) (by omega) (fun c => ?_) (fun c => ?_)
      · skip
        exfalso; omega
      · skip
        refine lv_aload_n hx hb dX0_added_7 rfl (lv_at hl 0 rfl) ?_
        refine lv_iload_n hx hb dX0_added_8 rfl (lv_at hl 1 rfl) ?_
        refine lv_iload_n hx hb dX0_added_9 rfl (lv_at hl 3 rfl) ?_
        refine sp_callI (n := 2) (rest := []) hC hW (metX0_digit l D ad dc _ (ad 0) _ _ (x) (i) (by omega) (by omega)) q97 q99 qs3 q30 q100 rfl rfl rfl (by decide +kernel) ⟨by decide, by decide⟩ rfl hl rfl (Nat.le_of_ble_eq_true rfl) ⟨Nat.zero_le _, Nat.zero_le _⟩ dX0_added_10 (fun r u H locs hp hW => ?_)
        have hp : r = nI (sp_dt x i) := hp
        subst hp
        have hW : sp_Wd D (sp_wX ad dc (sp_aI nb) (S) (sp_aI (sp_dg (sp_E nb) sk)) (g1) (M) (kept) (top) (known) (go) (ne)) A s.heap H locs := hW
        refine lv_istore (lv' := [(4, .int (nI (sp_dt x i))), (0, .ref (ad 0)), (1, .int (nI x)), (2, .int (nI y)), (3, .int (nI i))]) hx hb dX0_added_13 hl (by decide) rfl (fun ls hl => ?_)
        refine lv_aload_n hx hb dX0_added_15 rfl (lv_at hl 1 rfl) ?_
        refine lv_iload_n hx hb dX0_added_16 rfl (lv_at hl 3 rfl) ?_
        refine lv_iload_n hx hb dX0_added_17 rfl (lv_at hl 4 rfl) ?_
        refine sp_callI (n := 2) (rest := []) hC hW (metX0_digit l D ad dc _ (ad 0) _ _ (y) (i) (by omega) (by omega)) q97 q99 qs3 q30 q100 rfl rfl rfl (by decide +kernel) ⟨by decide, by decide⟩ rfl hl rfl (Nat.le_of_ble_eq_true rfl) ⟨Nat.zero_le _, Nat.zero_le _⟩ dX0_added_18 (fun r u H locs hp hW => ?_)
        have hp : r = nI (sp_dt y i) := hp
        subst hp
        have hW : sp_Wd D (sp_wX ad dc (sp_aI nb) (S) (sp_aI (sp_dg (sp_E nb) sk)) (g1) (M) (kept) (top) (known) (go) (ne)) A s.heap H locs := hW
        refine lv_istore (lv' := [(5, .int (nI (sp_dt y i))), (4, .int (nI (sp_dt x i))), (0, .ref (ad 0)), (1, .int (nI x)), (2, .int (nI y)), (3, .int (nI i))]) hx hb dX0_added_21 hl (by decide) rfl (fun ls hl => ?_)
        refine lv_aload_n hx hb dX0_added_23 rfl (lv_at hl 2 rfl) ?_
        refine sp_get0 hC hW 3 (by decide) q43 rfl (v := .ref (ad 4)) rfl dX0_added_24 ?_
        refine lv_iload_n hx hb dX0_added_27 rfl (lv_at hl 5 rfl) ?_
        refine lv_iload hx hb dX0_added_28 (lv_at hl 1 rfl) ?_
        refine lv_iload hx hb dX0_added_30 (lv_at hl 0 rfl) ?_
        refine lv_iadd hx hb dX0_added_32 ?_
        refine sp_top (y := nI (sp_dt x i + (sp_dt y i))) (nI_add _ _) ?_
        refine sp_iast hC hW 4 3 rfl rfl (k := i) (x := nI (sp_dt x i + (sp_dt y i))) (by omega) (by decide) (fun j => if j = i then nI (sp_dt x i + sp_dt y i) else g1 j) (fun _ _ => rfl) dX0_added_33 (fun H locs hW => ?_)
        have hW : sp_Wd D (sp_wX ad dc (sp_aI nb) (S) (sp_aI (sp_dg (sp_E nb) sk)) (fun j => if j = i then nI (sp_dt x i + sp_dt y i) else g1 j) (M) (kept) (top) (known) (go) (ne)) A s.heap H locs := hW
        refine lv_iinc (v := nI (i + 1)) (lv' := [(3, .int (nI (i + 1))), (5, .int (nI (sp_dt y i))), (4, .int (nI (sp_dt x i))), (0, .ref (ad 0)), (1, .int (nI x)), (2, .int (nI y))]) hx hb dX0_added_34 hl (k := 5) rfl (nI_1 _) (by decide) rfl (fun ls hl => ?_)
        refine lv_goto (tgt := 2) hx hb dX0_added_37 (by decide) ?_
        exact ih (i + 1) _ (by omega) (lt_s (fun k hk => by show (if k = i then _ else g1 k) = _; rw [if_neg (by omega)]; exact hg k hk) (by show (if i = i then _ else _) = _; rw [if_pos rfl])) _ _ _ hW (lv_sub hl [3, 4, 5, 0] rfl)
  exact loop 4 0 G (by omega) lt_0 _ _ _ hW (lv_sub hl [1, 2, 3, 0] rfl)
set_option maxHeartbeats 4000000 in
set_option maxRecDepth 100000 in
/-- timesState -/
theorem metX0_timesState (l : Launch) (D : va_G) (ad : Nat → Nat) (dc : Nat → ClassId) (nb sk : Nat → Nat) (hok : sp_Ok nb sk) (G S M : Nat → Int32) (kept top known go : Int32) (x q y : Nat) (hx0 : x < 4096) (hq : q ≤ 1000) (hy0 : y < 4096) : sp_MI l D (sp_tX dc) yX0_timesState cX0_timesState 5 .int ({ frames := 2, cells := 0, slots := 0, locals := 49 } : Room) [.ref (ad 0), .int (nI x), .int (nI q)] (sp_wX ad dc (sp_aI nb) (S) (sp_aI (sp_dg (sp_E nb) sk)) (G) (M) (kept) (top) (known) (go) (nI y)) (S := (Nat → Int32) × Int32) (fun r _ => r = nI (sp_ad nb sk (sp_sp nb sk (fun k => q * sp_dt x k)) y)) (fun u => sp_wX ad dc (sp_aI nb) (S) (sp_aI (sp_dg (sp_E nb) sk)) (u.1) (M) (kept) (u.2) (known) (go) (nI y)) := by
  refine sp_entI (own := RX0) (by decide) rfl (Nat.le_of_ble_eq_true rfl) ?_
  intro pg ev s mi args below meth cd A Q ls hC hW hret hl
  obtain ⟨hx, hb, -⟩ := id hC
  have hl : lv_has ls 5 [(0, .ref (ad 0)), (1, .int (nI x)), (2, .int (nI q))] := hl
  refine lv_iconst (v := nI 0) hx hb dX0_timesState_0 (by decide) ?_
  refine lv_istore_n (lv' := [(3, .int (nI 0)), (0, .ref (ad 0)), (1, .int (nI x)), (2, .int (nI q))]) hx hb dX0_timesState_1 rfl hl (by decide) rfl (fun ls hl => ?_)
  have loop : ∀ (n i : Nat) (g1 : Nat → Int32), i + n = 4 → (∀ k, k < i → g1 k = nI (q * sp_dt x k)) → ∀ (H : Heap) (locs : List Loc) (ls : Array Slot), sp_Wd D (sp_wX ad dc (sp_aI nb) (S) (sp_aI (sp_dg (sp_E nb) sk)) (g1) (M) (kept) (top) (known) (go) (nI y)) A s.heap H locs → lv_has ls 5 [(0, .ref (ad 0)), (1, .int (nI x)), (2, .int (nI q)), (3, .int (nI i))] → W pg l ev ({ frames := 2, cells := 0, slots := 0, locals := 49 } : Room) s mi args below meth cd H locs 0 0 Q (F0 mi 2 ls []) := by
    intro n
    induction n with
    | zero =>
      intro i g1 hi_i hg H locs ls hW hl
      refine lv_iload_n hx hb dX0_timesState_2 rfl (lv_at hl 3 rfl) ?_
      refine lv_iconst (v := nI 4) hx hb dX0_timesState_3 (by decide) ?_
      refine sp_icmp_ge (a := i) (b := 4) (tgt := 31) hx hb dX0_timesState_4 (by decide) (by omega) (by omega) (fun c => ?_) (fun c => ?_)
      · skip
        refine lv_aload_n hx hb dX0_timesState_31 rfl (lv_at hl 0 rfl) ?_
        have hW := hW.arr 4 rfl (sp_aI (fun k => q * sp_dt x k)) (fun j hj => hg j (by omega))
        have hW : sp_Wd D (sp_wX ad dc (sp_aI nb) (S) (sp_aI (sp_dg (sp_E nb) sk)) (sp_aI (fun k => q * sp_dt x k)) (M) (kept) (top) (known) (go) (nI y)) A s.heap H locs := hW
        have htt : sp_tot (fun k => q * sp_dt x k) ≤ 1048576 := by
          have h0 := sp_dt_lt x 0
          have h1 := sp_dt_lt x 1
          have h2 := sp_dt_lt x 2
          have h3 := sp_dt_lt x 3
          have g0 : q * sp_dt x 0 ≤ 1000 * 7 := Nat.mul_le_mul hq (by omega)
          have g1 : q * sp_dt x 1 ≤ 1000 * 7 := Nat.mul_le_mul hq (by omega)
          have g2 : q * sp_dt x 2 ≤ 1000 * 7 := Nat.mul_le_mul hq (by omega)
          have g3 : q * sp_dt x 3 ≤ 1000 * 7 := Nat.mul_le_mul hq (by omega)
          simp only [sp_tot]; omega
        refine sp_callV (n := 0) (rest := []) hC hW (metX0_settle l D ad dc nb sk hok (fun k => q * sp_dt x k) (htt) _ _ _ _ _ _ _) q101 q103 qs4 q30 q104 rfl rfl rfl (by decide +kernel) ⟨by decide, by decide⟩ rfl hl rfl (Nat.le_of_ble_eq_true rfl) ⟨Nat.zero_le _, Nat.zero_le _⟩ dX0_timesState_32 (fun u H locs hp hW => ?_)
        have hW : sp_Wd D (sp_wX ad dc (sp_aI nb) (S) (sp_aI (sp_dg (sp_E nb) sk)) (sp_aI (sp_st (sp_E nb) sk (fun k => q * sp_dt x k))) (M) (kept) (nI (sp_ct (sp_E nb) sk (fun k => q * sp_dt x k))) (known) (go) (nI y)) A s.heap H locs := hW
        refine lv_aload_n hx hb dX0_timesState_35 rfl (lv_at hl 0 rfl) ?_
        refine sp_callI (n := 0) (rest := []) hC hW (metX0_packed l D ad dc _ (sp_st (sp_E nb) sk (fun k => q * sp_dt x k)) _ _ _ _ _ _ _ _) q105 q107 qs5 q30 q108 rfl rfl rfl (by decide +kernel) ⟨by decide, by decide⟩ rfl hl rfl (Nat.le_of_ble_eq_true rfl) ⟨Nat.zero_le _, Nat.zero_le _⟩ dX0_timesState_36 (fun r u H locs hp hW => ?_)
        have hp : r = nI (sp_pk (sp_st (sp_E nb) sk (fun k => q * sp_dt x k))) := hp
        subst hp
        have hW : sp_Wd D (sp_wX ad dc (sp_aI nb) (S) (sp_aI (sp_dg (sp_E nb) sk)) (sp_aI (sp_st (sp_E nb) sk (fun k => q * sp_dt x k))) (M) (kept) (nI (sp_ct (sp_E nb) sk (fun k => q * sp_dt x k))) (known) (go) (nI y)) A s.heap H locs := hW
        refine lv_istore_n (lv' := [(3, .int (nI (sp_pk (sp_st (sp_E nb) sk (fun k => q * sp_dt x k))))), (0, .ref (ad 0)), (1, .int (nI x)), (2, .int (nI q))]) hx hb dX0_timesState_39 rfl hl (by decide) rfl (fun ls hl => ?_)
        refine lv_aload_n hx hb dX0_timesState_40 rfl (lv_at hl 1 rfl) ?_
        refine lv_iload_n hx hb dX0_timesState_41 rfl (lv_at hl 0 rfl) ?_
        refine lv_aload_n hx hb dX0_timesState_42 rfl (lv_at hl 1 rfl) ?_
        refine sp_get0 hC hW 8 (by decide) q48 rfl (v := .int (nI y)) rfl dX0_timesState_43 ?_
        refine sp_callI (n := 2) (rest := []) hC hW (metX0_added l D ad dc nb sk hok _ _ _ _ _ _ _ _ (sp_sp nb sk (fun k => q * sp_dt x k)) y (sp_sp_lt hok _) hy0) q166 q168 qs12 q30 q169 rfl rfl rfl (by decide +kernel) ⟨by decide, by decide⟩ rfl hl rfl (Nat.le_of_ble_eq_true rfl) ⟨Nat.zero_le _, Nat.zero_le _⟩ dX0_timesState_46 (fun r u H locs hp hW => ?_)
        obtain ⟨G1, t1⟩ := u
        have hW : sp_Wd D (sp_wX ad dc (sp_aI nb) (S) (sp_aI (sp_dg (sp_E nb) sk)) (G1) (M) (kept) (t1) (known) (go) (nI y)) A s.heap H locs := hW
        exact hret _ _ _ _ _ ((G1, t1)) dX0_timesState_49 (rfl) (hp) hW
      · skip
        exfalso; omega
    | succ n ih =>
      intro i g1 hi_i hg H locs ls hW hl
      refine lv_iload_n hx hb dX0_timesState_2 rfl (lv_at hl 3 rfl) ?_
      refine lv_iconst (v := nI 4) hx hb dX0_timesState_3 (by decide) ?_
      refine sp_icmp_ge (a := i) (b := 4) (tgt := 31) hx hb dX0_timesState_4 (by decide) (by omega) (by omega) (fun c => ?_) (fun c => ?_)
      · skip
        exfalso; omega
      · skip
        refine lv_aload_n hx hb dX0_timesState_7 rfl (lv_at hl 0 rfl) ?_
        refine lv_iload_n hx hb dX0_timesState_8 rfl (lv_at hl 1 rfl) ?_
        refine lv_iload_n hx hb dX0_timesState_9 rfl (lv_at hl 3 rfl) ?_
        refine sp_callI (n := 2) (rest := []) hC hW (metX0_digit l D ad dc _ (ad 0) _ _ (x) (i) (by omega) (by omega)) q97 q99 qs3 q30 q100 rfl rfl rfl (by decide +kernel) ⟨by decide, by decide⟩ rfl hl rfl (Nat.le_of_ble_eq_true rfl) ⟨Nat.zero_le _, Nat.zero_le _⟩ dX0_timesState_10 (fun r u H locs hp hW => ?_)
        have hp : r = nI (sp_dt x i) := hp
        subst hp
        have hW : sp_Wd D (sp_wX ad dc (sp_aI nb) (S) (sp_aI (sp_dg (sp_E nb) sk)) (g1) (M) (kept) (top) (known) (go) (nI y)) A s.heap H locs := hW
        refine lv_istore (lv' := [(4, .int (nI (sp_dt x i))), (0, .ref (ad 0)), (1, .int (nI x)), (2, .int (nI q)), (3, .int (nI i))]) hx hb dX0_timesState_13 hl (by decide) rfl (fun ls hl => ?_)
        refine lv_aload_n hx hb dX0_timesState_15 rfl (lv_at hl 1 rfl) ?_
        refine sp_get0 hC hW 3 (by decide) q43 rfl (v := .ref (ad 4)) rfl dX0_timesState_16 ?_
        refine lv_iload_n hx hb dX0_timesState_19 rfl (lv_at hl 4 rfl) ?_
        refine lv_iload_n hx hb dX0_timesState_20 rfl (lv_at hl 3 rfl) ?_
        refine lv_iload hx hb dX0_timesState_21 (lv_at hl 0 rfl) ?_
        refine lv_imul hx hb dX0_timesState_23 ?_
        refine sp_top (y := nI (q * (sp_dt x i))) (pk_mul _ _) ?_
        refine sp_iast hC hW 4 3 rfl rfl (k := i) (x := nI (q * (sp_dt x i))) (by omega) (by decide) (fun j => if j = i then nI (q * sp_dt x i) else g1 j) (fun _ _ => rfl) dX0_timesState_24 (fun H locs hW => ?_)
        have hW : sp_Wd D (sp_wX ad dc (sp_aI nb) (S) (sp_aI (sp_dg (sp_E nb) sk)) (fun j => if j = i then nI (q * sp_dt x i) else g1 j) (M) (kept) (top) (known) (go) (nI y)) A s.heap H locs := hW
        refine lv_iinc (v := nI (i + 1)) (lv' := [(3, .int (nI (i + 1))), (4, .int (nI (sp_dt x i))), (0, .ref (ad 0)), (1, .int (nI x)), (2, .int (nI q))]) hx hb dX0_timesState_25 hl (k := 4) rfl (nI_1 _) (by decide) rfl (fun ls hl => ?_)
        refine lv_goto (tgt := 2) hx hb dX0_timesState_28 (by decide) ?_
        exact ih (i + 1) _ (by omega) (lt_s (fun k hk => by show (if k = i then _ else g1 k) = _; rw [if_neg (by omega)]; exact hg k hk) (by show (if i = i then _ else _) = _; rw [if_pos rfl])) _ _ _ hW (lv_sub hl [2, 3, 4, 0] rfl)
  exact loop 4 0 G (by omega) lt_0 _ _ _ hW (lv_sub hl [1, 2, 3, 0] rfl)
end
section
set_option maxRecDepth 100000
def sp_bi (nb c : Nat → Nat) (m : Nat) : Nat → Nat
  | 0 => m
  | i + 1 => sp_b1 nb c (sp_bi nb c m i) i
def sp_br (nb c : Nat → Nat) : Nat → Nat
  | 0 => 0
  | r + 1 => sp_bi nb c (sp_br nb c r) 4
theorem sp_bi_lt (nb c : Nat → Nat) {m : Nat} (hm : m < 16) : ∀ i, i ≤ 4 → sp_bi nb c m i < 16 := by
  intro i
  induction i with
  | zero => intro _; exact hm
  | succ i ih => intro h; exact (sp_b1_ok (ih (by omega)) (by omega)).1
theorem sp_br_lt (nb c : Nat → Nat) : ∀ r, sp_br nb c r < 16 := by
  intro r
  induction r with
  | zero => show 0 < 16; decide
  | succ r ih => exact sp_bi_lt nb c ih 4 (by omega)
def sp_cp (u : Nat) : Nat → Nat
  | 0 => 0
  | k + 1 => sp_cp u k + u / 2 ^ k % 2
theorem sp_cp4 (u : Nat) : sp_cp u 4 = sp_cb u := by
  simp [sp_cp, sp_cb]
set_option maxHeartbeats 4000000 in
set_option maxRecDepth 100000 in
/-- burns -/
theorem metX0_burns (l : Launch) (D : va_G) (ad : Nat → Nat) (dc : Nat → ClassId) (nb : Nat → Nat) (hnb : ∀ a, a < 4 → nb a < 16) (Dg G S M : Nat → Int32) (kept top known go ne : Int32) (x : Nat) (hx0 : x < 4096) : sp_MI l D (sp_tX dc) yX0_burns cX0_burns 8 .boolean ({ frames := 1, cells := 0, slots := 0, locals := 22 } : Room) [.ref (ad 0), .int (nI x)] (sp_wX ad dc (sp_aI nb) (S) (Dg) (G) (M) (kept) (top) (known) (go) (ne)) (S := Unit) (fun r _ => (sp_bn nb (sp_dt x) = 15 → r = nI 1) ∧ (¬ sp_bn nb (sp_dt x) = 15 → r = nI 0)) (fun _ => sp_wX ad dc (sp_aI nb) (S) (Dg) (G) (M) (kept) (top) (known) (go) (ne)) := by
  refine sp_entI (own := RX0) (by decide) rfl (Nat.le_of_ble_eq_true rfl) ?_
  intro pg ev s mi args below meth cd A Q ls hC hW hret hl
  obtain ⟨hx, hb, -⟩ := id hC
  have hl : lv_has ls 8 [(0, .ref (ad 0)), (1, .int (nI x))] := hl
  refine lv_iconst (v := nI 0) hx hb dX0_burns_0 (by decide) ?_
  refine lv_istore_n (lv' := [(2, .int (nI 0)), (0, .ref (ad 0)), (1, .int (nI x))]) hx hb dX0_burns_1 rfl hl (by decide) rfl (fun ls hl => ?_)
  refine lv_iconst (v := nI 0) hx hb dX0_burns_2 (by decide) ?_
  refine lv_istore_n (lv' := [(3, .int (nI 0)), (2, .int (nI 0)), (0, .ref (ad 0)), (1, .int (nI x))]) hx hb dX0_burns_3 rfl hl (by decide) rfl (fun ls hl => ?_)
  have lr : ∀ (nr rr : Nat) , rr + nr = 4 → ∀ (H : Heap) (locs : List Loc) (ls : Array Slot), sp_Wd D (sp_wX ad dc (sp_aI nb) (S) (Dg) (G) (M) (kept) (top) (known) (go) (ne)) A s.heap H locs → lv_has ls 8 [(0, .ref (ad 0)), (1, .int (nI x)), (2, .int (nI (sp_br nb (sp_dt x) rr))), (3, .int (nI rr))] → W pg l ev ({ frames := 1, cells := 0, slots := 0, locals := 22 } : Room) s mi args below meth cd H locs 0 0 Q (F0 mi 4 ls []) := by
    intro nr
    induction nr with
    | zero =>
      intro rr hi_rr H locs ls hW hl
      refine lv_iload_n hx hb dX0_burns_4 rfl (lv_at hl 3 rfl) ?_
      refine lv_iconst (v := nI 4) hx hb dX0_burns_5 (by decide) ?_
      refine sp_icmp_ge (a := rr) (b := 4) (tgt := 96) hx hb dX0_burns_6 (by decide) (by omega) (by omega) (fun c => ?_) (fun c => ?_)
      · skip
        have e4 : rr = 4 := by omega
        subst e4
        have hlt := sp_br_lt nb (sp_dt x) 4
        refine lv_iload_n hx hb dX0_burns_96 rfl (lv_at hl 2 rfl) ?_
        refine lv_bipush (v := nI 15) hx hb dX0_burns_97 (by decide) ?_
        refine sp_icmp_ne (a := sp_br nb (sp_dt x) 4) (b := 15) (tgt := 106) hx hb dX0_burns_99 (by decide) (by omega) (by omega) (fun cc => ?_) (fun cc => ?_)
        · skip
          refine lv_iconst (v := nI 0) hx hb dX0_burns_106 (by decide) ?_
          exact hret _ _ _ _ _ (()) dX0_burns_107 (rfl) (⟨fun q => absurd q cc, fun _ => rfl⟩) hW
        · skip
          refine lv_iconst (v := nI 1) hx hb dX0_burns_102 (by decide) ?_
          refine lv_goto (tgt := 107) hx hb dX0_burns_103 (by decide) ?_
          exact hret _ _ _ _ _ (()) dX0_burns_107 (rfl) (⟨fun _ => rfl, fun q => absurd cc q⟩) hW
      · skip
        exfalso; omega
    | succ nr ihr =>
      intro rr hi_rr H locs ls hW hl
      refine lv_iload_n hx hb dX0_burns_4 rfl (lv_at hl 3 rfl) ?_
      refine lv_iconst (v := nI 4) hx hb dX0_burns_5 (by decide) ?_
      refine sp_icmp_ge (a := rr) (b := 4) (tgt := 96) hx hb dX0_burns_6 (by decide) (by omega) (by omega) (fun c => ?_) (fun c => ?_)
      · skip
        exfalso; omega
      · skip
        have hlr := sp_br_lt nb (sp_dt x) rr
        refine lv_iconst (v := nI 0) hx hb dX0_burns_9 (by decide) ?_
        refine lv_istore (lv' := [(4, .int (nI 0)), (0, .ref (ad 0)), (1, .int (nI x)), (2, .int (nI (sp_br nb (sp_dt x) rr))), (3, .int (nI rr))]) hx hb dX0_burns_10 hl (by decide) rfl (fun ls hl => ?_)
        have la : ∀ (na i : Nat) , i + na = 4 → ∀ (H : Heap) (locs : List Loc) (ls : Array Slot), sp_Wd D (sp_wX ad dc (sp_aI nb) (S) (Dg) (G) (M) (kept) (top) (known) (go) (ne)) A s.heap H locs → lv_has ls 8 [(0, .ref (ad 0)), (1, .int (nI x)), (2, .int (nI (sp_bi nb (sp_dt x) (sp_br nb (sp_dt x) rr) i))), (3, .int (nI rr)), (4, .int (nI i))] → W pg l ev ({ frames := 1, cells := 0, slots := 0, locals := 22 } : Room) s mi args below meth cd H locs 0 0 Q (F0 mi 12 ls []) := by
          intro na
          induction na with
          | zero =>
            intro i hi_i H locs ls hW hl
            refine lv_iload hx hb dX0_burns_12 (lv_at hl 4 rfl) ?_
            refine lv_iconst (v := nI 4) hx hb dX0_burns_14 (by decide) ?_
            refine sp_icmp_ge (a := i) (b := 4) (tgt := 90) hx hb dX0_burns_15 (by decide) (by omega) (by omega) (fun c => ?_) (fun c => ?_)
            · skip
              have e4 : i = 4 := by omega
              subst e4
              refine lv_iinc (v := nI (rr + 1)) (lv' := [(3, .int (nI (rr + 1))), (0, .ref (ad 0)), (1, .int (nI x)), (2, .int (nI (sp_bi nb (sp_dt x) (sp_br nb (sp_dt x) rr) 4))), (4, .int (nI 4))]) hx hb dX0_burns_90 hl (k := 3) rfl (nI_1 _) (by decide) rfl (fun ls hl => ?_)
              refine lv_goto (tgt := 4) hx hb dX0_burns_93 (by decide) ?_
              exact ihr (rr + 1) (by omega) _ _ _ hW (lv_sub hl [1, 2, 3, 0] rfl)
            · skip
              exfalso; omega
          | succ na iha =>
            intro i hi_i H locs ls hW hl
            refine lv_iload hx hb dX0_burns_12 (lv_at hl 4 rfl) ?_
            refine lv_iconst (v := nI 4) hx hb dX0_burns_14 (by decide) ?_
            refine sp_icmp_ge (a := i) (b := 4) (tgt := 90) hx hb dX0_burns_15 (by decide) (by omega) (by omega) (fun c => ?_) (fun c => ?_)
            · skip
              exfalso; omega
            · skip
              have hml := sp_bi_lt nb (sp_dt x) hlr i (by omega)
              obtain ⟨mm, hmm⟩ : ∃ mm, mm = sp_bi nb (sp_dt x) (sp_br nb (sp_dt x) rr) i := ⟨_, rfl⟩
              rw [← hmm] at hl hml
              have hni := hnb i (by omega)
              refine lv_aload_n hx hb dX0_burns_18 rfl (lv_at hl 0 rfl) ?_
              refine sp_get0 hC hW 0 (by decide) q40 rfl (v := .ref (ad 1)) rfl dX0_burns_19 ?_
              refine lv_iload hx hb dX0_burns_22 (lv_at hl 4 rfl) ?_
              refine sp_bald hC hW 1 0 rfl rfl (k := i) (v := nI (nb i)) (by omega) (by decide) rfl dX0_burns_24 ?_
              refine lv_iload_n hx hb dX0_burns_25 rfl (lv_at hl 2 rfl) ?_
              refine lv_iconst (v := (-1)) hx hb dX0_burns_26 (by decide) ?_
              refine lv_ixor hx hb dX0_burns_27 ?_
              refine lv_iand hx hb dX0_burns_28 ?_
              refine sp_top (y := nI (sp_un (nb i) mm)) (sp_anm _ hni _ hml) ?_
              have hun := sp_un16 _ hni _ hml
              refine lv_istore (lv' := [(5, .int (nI (sp_un (nb i) mm))), (0, .ref (ad 0)), (1, .int (nI x)), (2, .int (nI mm)), (3, .int (nI rr)), (4, .int (nI i))]) hx hb dX0_burns_29 hl (by decide) rfl (fun ls hl => ?_)
              refine lv_iconst (v := nI 0) hx hb dX0_burns_31 (by decide) ?_
              refine lv_istore (lv' := [(6, .int (nI 0)), (5, .int (nI (sp_un (nb i) mm))), (0, .ref (ad 0)), (1, .int (nI x)), (2, .int (nI mm)), (3, .int (nI rr)), (4, .int (nI i))]) hx hb dX0_burns_32 hl (by decide) rfl (fun ls hl => ?_)
              refine lv_iconst (v := nI 0) hx hb dX0_burns_34 (by decide) ?_
              refine lv_istore (lv' := [(7, .int (nI 0)), (6, .int (nI 0)), (5, .int (nI (sp_un (nb i) mm))), (0, .ref (ad 0)), (1, .int (nI x)), (2, .int (nI mm)), (3, .int (nI rr)), (4, .int (nI i))]) hx hb dX0_burns_35 hl (by decide) rfl (fun ls hl => ?_)
              have lb : ∀ (nb_ k : Nat) , k + nb_ = 4 → ∀ (H : Heap) (locs : List Loc) (ls : Array Slot), sp_Wd D (sp_wX ad dc (sp_aI nb) (S) (Dg) (G) (M) (kept) (top) (known) (go) (ne)) A s.heap H locs → lv_has ls 8 [(0, .ref (ad 0)), (1, .int (nI x)), (2, .int (nI mm)), (3, .int (nI rr)), (4, .int (nI i)), (5, .int (nI (sp_un (nb i) mm))), (6, .int (nI (sp_cp (sp_un (nb i) mm) k))), (7, .int (nI k))] → W pg l ev ({ frames := 1, cells := 0, slots := 0, locals := 22 } : Room) s mi args below meth cd H locs 0 0 Q (F0 mi 37 ls []) := by
                intro nb_
                induction nb_ with
                | zero =>
                  intro k hi_k H locs ls hW hl
                  refine lv_iload hx hb dX0_burns_37 (lv_at hl 7 rfl) ?_
                  refine lv_iconst (v := nI 4) hx hb dX0_burns_39 (by decide) ?_
                  refine sp_icmp_ge (a := k) (b := 4) (tgt := 61) hx hb dX0_burns_40 (by decide) (by omega) (by omega) (fun c => ?_) (fun c => ?_)
                  · skip
                    have e4 : k = 4 := by omega
                    subst e4
                    refine lv_aload_n hx hb dX0_burns_61 rfl (lv_at hl 0 rfl) ?_
                    refine lv_iload_n hx hb dX0_burns_62 rfl (lv_at hl 1 rfl) ?_
                    refine lv_iload hx hb dX0_burns_63 (lv_at hl 4 rfl) ?_
                    refine sp_callI (n := 2) (rest := []) hC hW (metX0_digit l D ad dc _ (ad 0) _ _ (x) (i) (by omega) (by omega)) q97 q99 qs3 q30 q100 rfl rfl rfl (by decide +kernel) ⟨by decide, by decide⟩ rfl hl rfl (Nat.le_of_ble_eq_true rfl) ⟨Nat.zero_le _, Nat.zero_le _⟩ dX0_burns_65 (fun r u H locs hp hW => ?_)
                    have hp : r = nI (sp_dt x i) := hp
                    subst hp
                    have hW : sp_Wd D (sp_wX ad dc (sp_aI nb) (S) (Dg) (G) (M) (kept) (top) (known) (go) (ne)) A s.heap H locs := hW
                    refine lv_istore (lv' := [(7, .int (nI (sp_dt x i))), (0, .ref (ad 0)), (1, .int (nI x)), (2, .int (nI mm)), (3, .int (nI rr)), (4, .int (nI i)), (5, .int (nI (sp_un (nb i) mm))), (6, .int (nI (sp_cp (sp_un (nb i) mm) 4)))]) hx hb dX0_burns_68 hl (by decide) rfl (fun ls hl => ?_)
                    refine lv_iload hx hb dX0_burns_70 (lv_at hl 0 rfl) ?_
                    refine lv_iload hx hb dX0_burns_72 (lv_at hl 7 rfl) ?_
                    have hc4 := sp_cp4 (sp_un (nb i) mm)
                    have hcb := (sp_cb4 _ hun).1
                    have hdt8 := sp_dt_lt x i
                    refine sp_icmp_lt (a := sp_dt x i) (b := sp_cp (sp_un (nb i) mm) 4) (tgt := 84) hx hb dX0_burns_74 (by decide) (by omega) (by omega) (fun cb => ?_) (fun cb => ?_)
                    · skip
                      refine lv_iinc (v := nI (i + 1)) (lv' := [(4, .int (nI (i + 1))), (7, .int (nI (sp_dt x i))), (0, .ref (ad 0)), (1, .int (nI x)), (2, .int (nI mm)), (3, .int (nI rr)), (5, .int (nI (sp_un (nb i) mm))), (6, .int (nI (sp_cp (sp_un (nb i) mm) 4)))]) hx hb dX0_burns_84 hl (k := 5) rfl (nI_1 _) (by decide) rfl (fun ls hl => ?_)
                      refine lv_goto (tgt := 12) hx hb dX0_burns_87 (by decide) ?_
                      have hb1 : sp_bi nb (sp_dt x) (sp_br nb (sp_dt x) rr) (i + 1) = mm := by
                        show sp_b1 nb (sp_dt x) (sp_bi nb (sp_dt x) (sp_br nb (sp_dt x) rr) i) i = mm
                        rw [← hmm]
                        unfold sp_b1
                        rw [if_neg (by omega)]
                      exact iha (i + 1) (by omega) _ _ _ hW (by rw [hb1]; exact lv_sub hl [2, 3, 4, 5, 0] rfl)
                    · skip
                      refine lv_iload_n hx hb dX0_burns_77 rfl (lv_at hl 3 rfl) ?_
                      refine lv_iconst (v := nI 1) hx hb dX0_burns_78 (by decide) ?_
                      refine lv_iload hx hb dX0_burns_79 (lv_at hl 5 rfl) ?_
                      refine lv_ishl hx hb dX0_burns_81 ?_
                      refine sp_top (y := nI (2 ^ i)) (sp_shl1 i (by omega)) ?_
                      refine lv_ior hx hb dX0_burns_82 ?_
                      refine sp_top (y := nI (mm ||| 2 ^ i)) (sp_orb _ hml _ (by omega)) ?_
                      refine lv_istore_n (lv' := [(2, .int (nI (mm ||| 2 ^ i))), (7, .int (nI (sp_dt x i))), (0, .ref (ad 0)), (1, .int (nI x)), (3, .int (nI rr)), (4, .int (nI i)), (5, .int (nI (sp_un (nb i) mm))), (6, .int (nI (sp_cp (sp_un (nb i) mm) 4)))]) hx hb dX0_burns_83 rfl hl (by decide) rfl (fun ls hl => ?_)
                      refine lv_iinc (v := nI (i + 1)) (lv' := [(4, .int (nI (i + 1))), (2, .int (nI (mm ||| 2 ^ i))), (7, .int (nI (sp_dt x i))), (0, .ref (ad 0)), (1, .int (nI x)), (3, .int (nI rr)), (5, .int (nI (sp_un (nb i) mm))), (6, .int (nI (sp_cp (sp_un (nb i) mm) 4)))]) hx hb dX0_burns_84 hl (k := 5) rfl (nI_1 _) (by decide) rfl (fun ls hl => ?_)
                      refine lv_goto (tgt := 12) hx hb dX0_burns_87 (by decide) ?_
                      have hb1 : sp_bi nb (sp_dt x) (sp_br nb (sp_dt x) rr) (i + 1) = mm ||| 2 ^ i := by
                        show sp_b1 nb (sp_dt x) (sp_bi nb (sp_dt x) (sp_br nb (sp_dt x) rr) i) i = _
                        rw [← hmm]
                        unfold sp_b1
                        rw [if_pos (by omega)]
                      exact iha (i + 1) (by omega) _ _ _ hW (by rw [hb1]; exact lv_sub hl [3, 4, 1, 5, 0] rfl)
                  · skip
                    exfalso; omega
                | succ nb_ ihb =>
                  intro k hi_k H locs ls hW hl
                  refine lv_iload hx hb dX0_burns_37 (lv_at hl 7 rfl) ?_
                  refine lv_iconst (v := nI 4) hx hb dX0_burns_39 (by decide) ?_
                  refine sp_icmp_ge (a := k) (b := 4) (tgt := 61) hx hb dX0_burns_40 (by decide) (by omega) (by omega) (fun c => ?_) (fun c => ?_)
                  · skip
                    exfalso; omega
                  · skip
                    refine lv_iload hx hb dX0_burns_43 (lv_at hl 6 rfl) ?_
                    refine lv_iload hx hb dX0_burns_45 (lv_at hl 5 rfl) ?_
                    refine lv_iload hx hb dX0_burns_47 (lv_at hl 7 rfl) ?_
                    refine lv_ishr hx hb dX0_burns_49 ?_
                    refine lv_iconst (v := nI 1) hx hb dX0_burns_50 (by decide) ?_
                    refine lv_iand hx hb dX0_burns_51 ?_
                    refine sp_top (y := nI (sp_un (nb i) mm / 2 ^ k % 2)) (sp_bit (by omega) (by omega)) ?_
                    refine lv_iadd hx hb dX0_burns_52 ?_
                    refine sp_top (y := nI (sp_cp (sp_un (nb i) mm) k + (sp_un (nb i) mm / 2 ^ k % 2))) (nI_add _ _) ?_
                    refine sp_top (y := nI (sp_cp (sp_un (nb i) mm) (k + 1))) (rfl) ?_
                    refine lv_istore (lv' := [(6, .int (nI (sp_cp (sp_un (nb i) mm) (k + 1)))), (0, .ref (ad 0)), (1, .int (nI x)), (2, .int (nI mm)), (3, .int (nI rr)), (4, .int (nI i)), (5, .int (nI (sp_un (nb i) mm))), (7, .int (nI k))]) hx hb dX0_burns_53 hl (by decide) rfl (fun ls hl => ?_)
                    refine lv_iinc (v := nI (k + 1)) (lv' := [(7, .int (nI (k + 1))), (6, .int (nI (sp_cp (sp_un (nb i) mm) (k + 1)))), (0, .ref (ad 0)), (1, .int (nI x)), (2, .int (nI mm)), (3, .int (nI rr)), (4, .int (nI i)), (5, .int (nI (sp_un (nb i) mm)))]) hx hb dX0_burns_55 hl (k := 7) rfl (nI_1 _) (by decide) rfl (fun ls hl => ?_)
                    refine lv_goto (tgt := 37) hx hb dX0_burns_58 (by decide) ?_
                    exact ihb (k + 1) (by omega) _ _ _ hW (lv_sub hl [2, 3, 4, 5, 6, 7, 1, 0] rfl)
              exact lb 4 0 (by omega) _ _ _ hW (lv_sub hl [3, 4, 5, 6, 7, 2, 1, 0] rfl)
        exact la 4 0 (by omega) _ _ _ hW (lv_sub hl [1, 2, 3, 4, 0] rfl)
  exact lr 4 0 (by omega) _ _ _ hW (lv_sub hl [2, 3, 1, 0] rfl)
set_option maxHeartbeats 4000000 in
set_option maxRecDepth 100000 in
/-- reduce -/
theorem metX0_reduce (l : Launch) (D : va_G) (ad : Nat → Nat) (dc : Nat → ClassId) (N Dg G S M : Nat → Int32) (kept top known go ne : Int32) (r k : Nat) (hr4 : r < 4) (hk4 : k < 4) (hrk : r ≠ k) (b : Int32) (hb0 : ¬ b = 0) : sp_MV l D (sp_tX dc) yX0_reduce cX0_reduce 7 ({ frames := 0, cells := 0, slots := 0, locals := 0 } : Room) [.ref (ad 0), .int (nI r), .int (nI k), .int b] (sp_wX ad dc (N) (S) (Dg) (G) (M) (kept) (top) (known) (go) (ne)) (S := Unit) (fun _ => True) (fun _ => sp_wX ad dc (N) (S) (Dg) (G) (sp_rd M r k b) (kept) (top) (known) (go) (ne)) := by
  refine sp_entV (own := RX0) (by decide) rfl (Nat.le_of_ble_eq_true rfl) ?_
  intro pg ev s mi args below meth cd A Q ls hC hW hret hl
  obtain ⟨hx, hb, -⟩ := id hC
  have hl : lv_has ls 7 [(0, .ref (ad 0)), (1, .int (nI r)), (2, .int (nI k)), (3, .int b)] := hl
  refine lv_aload_n hx hb dX0_reduce_0 rfl (lv_at hl 0 rfl) ?_
  refine sp_get0 hC hW 9 (by decide) q49 rfl (v := .ref (ad 5)) rfl dX0_reduce_1 ?_
  refine lv_iconst (v := nI 5) hx hb dX0_reduce_4 (by decide) ?_
  refine lv_iload_n hx hb dX0_reduce_5 rfl (lv_at hl 2 rfl) ?_
  refine lv_imul hx hb dX0_reduce_6 ?_
  refine sp_top (y := nI (5 * k)) (pk_mul _ _) ?_
  refine sp_iald hC hW 5 4 rfl rfl (k := 5 * k) (v := (M) (5 * k)) (by omega) (by decide) rfl dX0_reduce_7 ?_
  refine lv_istore (lv' := [(4, .int ((M) (5 * k))), (0, .ref (ad 0)), (1, .int (nI r)), (2, .int (nI k)), (3, .int b)]) hx hb dX0_reduce_8 hl (by decide) rfl (fun ls hl => ?_)
  refine lv_aload_n hx hb dX0_reduce_10 rfl (lv_at hl 1 rfl) ?_
  refine sp_get0 hC hW 9 (by decide) q49 rfl (v := .ref (ad 5)) rfl dX0_reduce_11 ?_
  refine lv_iconst (v := nI 4) hx hb dX0_reduce_14 (by decide) ?_
  refine lv_iload_n hx hb dX0_reduce_15 rfl (lv_at hl 2 rfl) ?_
  refine lv_imul hx hb dX0_reduce_16 ?_
  refine sp_top (y := nI (4 * r)) (pk_mul _ _) ?_
  refine lv_iload_n hx hb dX0_reduce_17 rfl (lv_at hl 3 rfl) ?_
  refine lv_iadd hx hb dX0_reduce_18 ?_
  refine sp_top (y := nI (4 * r + k)) (nI_add _ _) ?_
  refine sp_iald hC hW 5 4 rfl rfl (k := 4 * r + k) (v := (M) (4 * r + k)) (by omega) (by decide) rfl dX0_reduce_19 ?_
  refine lv_istore (lv' := [(5, .int ((M) (4 * r + k))), (4, .int ((M) (5 * k))), (0, .ref (ad 0)), (1, .int (nI r)), (2, .int (nI k)), (3, .int b)]) hx hb dX0_reduce_20 hl (by decide) rfl (fun ls hl => ?_)
  refine lv_iconst (v := nI 0) hx hb dX0_reduce_22 (by decide) ?_
  refine lv_istore (lv' := [(6, .int (nI 0)), (5, .int ((M) (4 * r + k))), (4, .int ((M) (5 * k))), (0, .ref (ad 0)), (1, .int (nI r)), (2, .int (nI k)), (3, .int b)]) hx hb dX0_reduce_23 hl (by decide) rfl (fun ls hl => ?_)
  obtain ⟨pv, hpv⟩ : ∃ pv, pv = M (5 * k) := ⟨_, rfl⟩
  obtain ⟨fc, hfc⟩ : ∃ fc, fc = M (4 * r + k) := ⟨_, rfl⟩
  have hl : lv_has ls 7 [(6, .int (nI 0)), (5, .int fc), (4, .int pv), (0, .ref (ad 0)), (1, .int (nI r)), (2, .int (nI k)), (3, .int b)] := by rw [hpv, hfc]; exact hl
  have loop : ∀ (n i : Nat) (g1 : Nat → Int32), i + n = 4 → (∀ j, j < 16 → g1 j = if 4 * r ≤ j ∧ j < 4 * r + i then (M j * pv - fc * M (4 * k + (j - 4 * r))) / b else M j) → ∀ (H : Heap) (locs : List Loc) (ls : Array Slot), sp_Wd D (sp_wX ad dc (N) (S) (Dg) (G) (g1) (kept) (top) (known) (go) (ne)) A s.heap H locs → lv_has ls 7 [(0, .ref (ad 0)), (1, .int (nI r)), (2, .int (nI k)), (3, .int b), (4, .int pv), (5, .int fc), (6, .int (nI i))] → W pg l ev ({ frames := 0, cells := 0, slots := 0, locals := 0 } : Room) s mi args below meth cd H locs 0 0 Q (F0 mi 25 ls []) := by
    intro n
    induction n with
    | zero =>
      intro i g1 hi_i hg H locs ls hW hl
      refine lv_iload hx hb dX0_reduce_25 (lv_at hl 6 rfl) ?_
      refine lv_iconst (v := nI 4) hx hb dX0_reduce_27 (by decide) ?_
      refine sp_icmp_ge (a := i) (b := 4) (tgt := 79) hx hb dX0_reduce_28 (by decide) (by omega) (by omega) (fun c => ?_) (fun c => ?_)
      · skip
        have e4 : i = 4 := by omega
        subst e4
        have hW := hW.arr 5 rfl (sp_rd M r k b) (fun j hj => by rw [hg j hj]; unfold sp_rd; rw [hpv, hfc])
        exact hret _ _ _ _ (()) dX0_reduce_79 (trivial) hW
      · skip
        exfalso; omega
    | succ n ih =>
      intro i g1 hi_i hg H locs ls hW hl
      refine lv_iload hx hb dX0_reduce_25 (lv_at hl 6 rfl) ?_
      refine lv_iconst (v := nI 4) hx hb dX0_reduce_27 (by decide) ?_
      refine sp_icmp_ge (a := i) (b := 4) (tgt := 79) hx hb dX0_reduce_28 (by decide) (by omega) (by omega) (fun c => ?_) (fun c => ?_)
      · skip
        exfalso; omega
      · skip
        refine lv_aload_n hx hb dX0_reduce_31 rfl (lv_at hl 0 rfl) ?_
        refine sp_get0 hC hW 9 (by decide) q49 rfl (v := .ref (ad 5)) rfl dX0_reduce_32 ?_
        refine lv_iconst (v := nI 4) hx hb dX0_reduce_35 (by decide) ?_
        refine lv_iload_n hx hb dX0_reduce_36 rfl (lv_at hl 1 rfl) ?_
        refine lv_imul hx hb dX0_reduce_37 ?_
        refine sp_top (y := nI (4 * r)) (pk_mul _ _) ?_
        refine lv_iload hx hb dX0_reduce_38 (lv_at hl 6 rfl) ?_
        refine lv_iadd hx hb dX0_reduce_40 ?_
        refine sp_top (y := nI (4 * r + i)) (nI_add _ _) ?_
        refine lv_aload_n hx hb dX0_reduce_41 rfl (lv_at hl 0 rfl) ?_
        refine sp_get0 hC hW 9 (by decide) q49 rfl (v := .ref (ad 5)) rfl dX0_reduce_42 ?_
        refine lv_iconst (v := nI 4) hx hb dX0_reduce_45 (by decide) ?_
        refine lv_iload_n hx hb dX0_reduce_46 rfl (lv_at hl 1 rfl) ?_
        refine lv_imul hx hb dX0_reduce_47 ?_
        refine sp_top (y := nI (4 * r)) (pk_mul _ _) ?_
        refine lv_iload hx hb dX0_reduce_48 (lv_at hl 6 rfl) ?_
        refine lv_iadd hx hb dX0_reduce_50 ?_
        refine sp_top (y := nI (4 * r + i)) (nI_add _ _) ?_
        have hv1 : g1 (4 * r + i) = M (4 * r + i) := by rw [hg _ (by omega), if_neg (by omega)]
        have hv2 : g1 (4 * k + i) = M (4 * k + i) := by rw [hg _ (by omega), if_neg (by omega)]
        refine sp_iald hC hW 5 4 rfl rfl (k := 4 * r + i) (v := (g1) (4 * r + i)) (by omega) (by decide) rfl dX0_reduce_51 ?_
        refine sp_top (y := M (4 * r + i)) (hv1) ?_
        refine lv_iload hx hb dX0_reduce_52 (lv_at hl 4 rfl) ?_
        refine lv_imul hx hb dX0_reduce_54 ?_
        refine lv_iload hx hb dX0_reduce_55 (lv_at hl 5 rfl) ?_
        refine lv_aload_n hx hb dX0_reduce_57 rfl (lv_at hl 0 rfl) ?_
        refine sp_get0 hC hW 9 (by decide) q49 rfl (v := .ref (ad 5)) rfl dX0_reduce_58 ?_
        refine lv_iconst (v := nI 4) hx hb dX0_reduce_61 (by decide) ?_
        refine lv_iload_n hx hb dX0_reduce_62 rfl (lv_at hl 2 rfl) ?_
        refine lv_imul hx hb dX0_reduce_63 ?_
        refine sp_top (y := nI (4 * k)) (pk_mul _ _) ?_
        refine lv_iload hx hb dX0_reduce_64 (lv_at hl 6 rfl) ?_
        refine lv_iadd hx hb dX0_reduce_66 ?_
        refine sp_top (y := nI (4 * k + i)) (nI_add _ _) ?_
        refine sp_iald hC hW 5 4 rfl rfl (k := 4 * k + i) (v := (g1) (4 * k + i)) (by omega) (by decide) rfl dX0_reduce_67 ?_
        refine sp_top (y := M (4 * k + i)) (hv2) ?_
        refine lv_imul hx hb dX0_reduce_68 ?_
        refine lv_isub hx hb dX0_reduce_69 ?_
        refine lv_iload_n hx hb dX0_reduce_70 rfl (lv_at hl 3 rfl) ?_
        refine lv_idiv hx hb dX0_reduce_71 (hb0) ?_
        obtain ⟨nv, hnv⟩ : ∃ nv, nv = (((M (4 * r + i)) * pv) - (fc * (M (4 * k + i)))) / b := ⟨_, rfl⟩
        refine sp_top (y := nv) (hnv.symm) ?_
        refine sp_iast hC hW 5 4 rfl rfl (k := 4 * r + i) (x := nv) (by omega) (by decide) (fun j => if j = 4 * r + i then nv else g1 j) (fun _ _ => rfl) dX0_reduce_72 (fun H locs hW => ?_)
        have hW : sp_Wd D (sp_wX ad dc (N) (S) (Dg) (G) (fun j => if j = 4 * r + i then nv else g1 j) (kept) (top) (known) (go) (ne)) A s.heap H locs := hW
        refine lv_iinc (v := nI (i + 1)) (lv' := [(6, .int (nI (i + 1))), (0, .ref (ad 0)), (1, .int (nI r)), (2, .int (nI k)), (3, .int b), (4, .int pv), (5, .int fc)]) hx hb dX0_reduce_73 hl (k := 6) rfl (nI_1 _) (by decide) rfl (fun ls hl => ?_)
        refine lv_goto (tgt := 25) hx hb dX0_reduce_76 (by decide) ?_
        have hg2 : ∀ j, j < 16 → (if j = 4 * r + i then nv else g1 j) = if 4 * r ≤ j ∧ j < 4 * r + (i + 1) then (M j * pv - fc * M (4 * k + (j - 4 * r))) / b else M j := by
          intro j hj
          by_cases ej : j = 4 * r + i
          · rw [if_pos ej, if_pos (by omega), hnv, ej, show 4 * k + (4 * r + i - 4 * r) = 4 * k + i by omega]
          · rw [if_neg ej, hg j hj]
            by_cases q : 4 * r ≤ j ∧ j < 4 * r + i
            · rw [if_pos q, if_pos (by omega)]
            · rw [if_neg q, if_neg (by omega)]
        exact ih (i + 1) _ (by omega) hg2 _ _ _ hW (lv_sub hl [1, 2, 3, 4, 5, 6, 0] rfl)
  exact loop 4 0 M (by omega) (fun j hj => by rw [if_neg (by omega)]) _ _ _ hW (lv_sub hl [3, 4, 5, 6, 2, 1, 0] rfl)
set_option maxHeartbeats 4000000 in
set_option maxRecDepth 100000 in
/-- determinant -/
theorem metX0_determinant (l : Launch) (D : va_G) (ad : Nat → Nat) (dc : Nat → ClassId) (nb sk : Nat → Nat) (hok : sp_Ok nb sk) (G S M : Nat → Int32) (kept top known go ne : Int32) : sp_MI l D (sp_tX dc) yX0_determinant cX0_determinant 4 .int ({ frames := 1, cells := 0, slots := 0, locals := 26 } : Room) [.ref (ad 0)] (sp_wX ad dc (sp_aI nb) (S) (sp_aI (sp_dg (sp_E nb) sk)) (G) (M) (kept) (top) (known) (go) (ne)) (S := Nat → Int32) (fun r _ => r = nI (sp_cn nb sk)) (fun u => sp_wX ad dc (sp_aI nb) (S) (sp_aI (sp_dg (sp_E nb) sk)) (G) (u) (kept) (top) (known) (go) (ne)) := by
  refine sp_entI (own := RX0) (by decide) rfl (Nat.le_of_ble_eq_true rfl) ?_
  intro pg ev s mi args below meth cd A Q ls hC hW hret hl
  obtain ⟨hx, hb, -⟩ := id hC
  have hl : lv_has ls 4 [(0, .ref (ad 0))] := hl
  obtain ⟨-, hd15, hd1, hd2, -⟩ := sp_det hok
  refine lv_iconst (v := nI 0) hx hb dX0_determinant_0 (by decide) ?_
  refine lv_istore_n (lv' := [(1, .int (nI 0)), (0, .ref (ad 0))]) hx hb dX0_determinant_1 rfl hl (by decide) rfl (fun ls hl => ?_)
  have la : ∀ (na i : Nat) (g1 : Nat → Int32), i + na = 4 → (∀ q, q < 4 * i → g1 q = sp_m0 (sp_pl nb) (sp_pl sk) q) → ∀ (H : Heap) (locs : List Loc) (ls : Array Slot), sp_Wd D (sp_wX ad dc (sp_aI nb) (S) (sp_aI (sp_dg (sp_E nb) sk)) (G) (g1) (kept) (top) (known) (go) (ne)) A s.heap H locs → lv_has ls 4 [(0, .ref (ad 0)), (1, .int (nI i))] → W pg l ev ({ frames := 1, cells := 0, slots := 0, locals := 26 } : Room) s mi args below meth cd H locs 0 0 Q (F0 mi 2 ls []) := by
    intro na
    induction na with
    | zero =>
      intro i g1 hi_i hg H locs ls hW hl
      refine lv_iload_n hx hb dX0_determinant_2 rfl (lv_at hl 1 rfl) ?_
      refine lv_iconst (v := nI 4) hx hb dX0_determinant_3 (by decide) ?_
      refine sp_icmp_ge (a := i) (b := 4) (tgt := 61) hx hb dX0_determinant_4 (by decide) (by omega) (by omega) (fun c => ?_) (fun c => ?_)
      · skip
        have e4 : i = 4 := by omega
        subst e4
        have hW := hW.arr 5 rfl (sp_m0 (sp_pl nb) (sp_pl sk)) (fun j hj => hg j (by omega))
        have hW : sp_Wd D (sp_wX ad dc (sp_aI nb) (S) (sp_aI (sp_dg (sp_E nb) sk)) (G) (sp_m0 (sp_pl nb) (sp_pl sk)) (kept) (top) (known) (go) (ne)) A s.heap H locs := hW
        refine lv_iconst (v := nI 1) hx hb dX0_determinant_61 (by decide) ?_
        refine lv_istore_n (lv' := [(1, .int (nI 1)), (0, .ref (ad 0))]) hx hb dX0_determinant_62 rfl hl (by decide) rfl (fun ls hl => ?_)
        refine lv_iconst (v := nI 0) hx hb dX0_determinant_63 (by decide) ?_
        refine lv_istore_n (lv' := [(2, .int (nI 0)), (1, .int (nI 1)), (0, .ref (ad 0))]) hx hb dX0_determinant_64 rfl hl (by decide) rfl (fun ls hl => ?_)
        refine lv_iload_n hx hb dX0_determinant_65 rfl (lv_at hl 0 rfl) ?_
        refine lv_iconst (v := nI 4) hx hb dX0_determinant_66 (by decide) ?_
        refine sp_icmp_ge (a := 0) (b := 4) (tgt := 107) hx hb dX0_determinant_67 (by decide) (by omega) (by omega) (fun c5 => ?_) (fun c5 => ?_)
        · skip
          exfalso; omega
        · skip
          refine lv_iload_n hx hb dX0_determinant_70 rfl (lv_at hl 0 rfl) ?_
          refine lv_iconst (v := nI 1) hx hb dX0_determinant_71 (by decide) ?_
          refine lv_iadd hx hb dX0_determinant_72 ?_
          refine sp_top (y := nI 1) (nI_add _ _) ?_
          refine lv_istore_n (lv' := [(3, .int (nI 1)), (2, .int (nI 0)), (1, .int (nI 1)), (0, .ref (ad 0))]) hx hb dX0_determinant_73 rfl hl (by decide) rfl (fun ls hl => ?_)
          refine lv_iload_n hx hb dX0_determinant_74 rfl (lv_at hl 0 rfl) ?_
          refine lv_iconst (v := nI 4) hx hb dX0_determinant_75 (by decide) ?_
          refine sp_icmp_ge (a := 1) (b := 4) (tgt := 92) hx hb dX0_determinant_76 (by decide) (by omega) (by omega) (fun c6 => ?_) (fun c6 => ?_)
          · skip
            exfalso; omega
          · skip
            refine lv_aload_n hx hb dX0_determinant_79 rfl (lv_at hl 3 rfl) ?_
            refine lv_iload_n hx hb dX0_determinant_80 rfl (lv_at hl 0 rfl) ?_
            refine lv_iload_n hx hb dX0_determinant_81 rfl (lv_at hl 1 rfl) ?_
            refine lv_iload_n hx hb dX0_determinant_82 rfl (lv_at hl 2 rfl) ?_
            refine sp_callV (n := 3) (rest := []) hC hW (metX0_reduce l D ad dc _ _ _ _ (sp_m0 (sp_pl nb) (sp_pl sk)) _ _ _ _ _ 1 0 (by decide) (by decide) (by decide) (nI 1) (by decide)) q145 q147 qs10 q30 q148 rfl rfl rfl (by decide +kernel) ⟨by decide, by decide⟩ rfl hl rfl (Nat.le_of_ble_eq_true rfl) ⟨Nat.zero_le _, Nat.zero_le _⟩ dX0_determinant_83 (fun u H locs hp hW => ?_)
            have hW : sp_Wd D (sp_wX ad dc (sp_aI nb) (S) (sp_aI (sp_dg (sp_E nb) sk)) (G) (sp_rd (sp_m0 (sp_pl nb) (sp_pl sk)) 1 0 (nI 1)) (kept) (top) (known) (go) (ne)) A s.heap H locs := hW
            refine lv_iinc (v := nI 2) (lv' := [(3, .int (nI 2)), (2, .int (nI 0)), (1, .int (nI 1)), (0, .ref (ad 0))]) hx hb dX0_determinant_86 hl (k := 0) rfl (nI_1 _) (by decide) rfl (fun ls hl => ?_)
            refine lv_goto (tgt := 74) hx hb dX0_determinant_89 (by decide) ?_
            refine lv_iload_n hx hb dX0_determinant_74 rfl (lv_at hl 0 rfl) ?_
            refine lv_iconst (v := nI 4) hx hb dX0_determinant_75 (by decide) ?_
            refine sp_icmp_ge (a := 2) (b := 4) (tgt := 92) hx hb dX0_determinant_76 (by decide) (by omega) (by omega) (fun c6 => ?_) (fun c6 => ?_)
            · skip
              exfalso; omega
            · skip
              refine lv_aload_n hx hb dX0_determinant_79 rfl (lv_at hl 3 rfl) ?_
              refine lv_iload_n hx hb dX0_determinant_80 rfl (lv_at hl 0 rfl) ?_
              refine lv_iload_n hx hb dX0_determinant_81 rfl (lv_at hl 1 rfl) ?_
              refine lv_iload_n hx hb dX0_determinant_82 rfl (lv_at hl 2 rfl) ?_
              refine sp_callV (n := 3) (rest := []) hC hW (metX0_reduce l D ad dc _ _ _ _ (sp_rd (sp_m0 (sp_pl nb) (sp_pl sk)) 1 0 (nI 1)) _ _ _ _ _ 2 0 (by decide) (by decide) (by decide) (nI 1) (by decide)) q145 q147 qs10 q30 q148 rfl rfl rfl (by decide +kernel) ⟨by decide, by decide⟩ rfl hl rfl (Nat.le_of_ble_eq_true rfl) ⟨Nat.zero_le _, Nat.zero_le _⟩ dX0_determinant_83 (fun u H locs hp hW => ?_)
              have hW : sp_Wd D (sp_wX ad dc (sp_aI nb) (S) (sp_aI (sp_dg (sp_E nb) sk)) (G) (sp_rd (sp_rd (sp_m0 (sp_pl nb) (sp_pl sk)) 1 0 (nI 1)) 2 0 (nI 1)) (kept) (top) (known) (go) (ne)) A s.heap H locs := hW
              refine lv_iinc (v := nI 3) (lv' := [(3, .int (nI 3)), (2, .int (nI 0)), (1, .int (nI 1)), (0, .ref (ad 0))]) hx hb dX0_determinant_86 hl (k := 0) rfl (nI_1 _) (by decide) rfl (fun ls hl => ?_)
              refine lv_goto (tgt := 74) hx hb dX0_determinant_89 (by decide) ?_
              refine lv_iload_n hx hb dX0_determinant_74 rfl (lv_at hl 0 rfl) ?_
              refine lv_iconst (v := nI 4) hx hb dX0_determinant_75 (by decide) ?_
              refine sp_icmp_ge (a := 3) (b := 4) (tgt := 92) hx hb dX0_determinant_76 (by decide) (by omega) (by omega) (fun c6 => ?_) (fun c6 => ?_)
              · skip
                exfalso; omega
              · skip
                refine lv_aload_n hx hb dX0_determinant_79 rfl (lv_at hl 3 rfl) ?_
                refine lv_iload_n hx hb dX0_determinant_80 rfl (lv_at hl 0 rfl) ?_
                refine lv_iload_n hx hb dX0_determinant_81 rfl (lv_at hl 1 rfl) ?_
                refine lv_iload_n hx hb dX0_determinant_82 rfl (lv_at hl 2 rfl) ?_
                refine sp_callV (n := 3) (rest := []) hC hW (metX0_reduce l D ad dc _ _ _ _ (sp_rd (sp_rd (sp_m0 (sp_pl nb) (sp_pl sk)) 1 0 (nI 1)) 2 0 (nI 1)) _ _ _ _ _ 3 0 (by decide) (by decide) (by decide) (nI 1) (by decide)) q145 q147 qs10 q30 q148 rfl rfl rfl (by decide +kernel) ⟨by decide, by decide⟩ rfl hl rfl (Nat.le_of_ble_eq_true rfl) ⟨Nat.zero_le _, Nat.zero_le _⟩ dX0_determinant_83 (fun u H locs hp hW => ?_)
                have hW : sp_Wd D (sp_wX ad dc (sp_aI nb) (S) (sp_aI (sp_dg (sp_E nb) sk)) (G) (sp_rd (sp_rd (sp_rd (sp_m0 (sp_pl nb) (sp_pl sk)) 1 0 (nI 1)) 2 0 (nI 1)) 3 0 (nI 1)) (kept) (top) (known) (go) (ne)) A s.heap H locs := hW
                refine lv_iinc (v := nI 4) (lv' := [(3, .int (nI 4)), (2, .int (nI 0)), (1, .int (nI 1)), (0, .ref (ad 0))]) hx hb dX0_determinant_86 hl (k := 0) rfl (nI_1 _) (by decide) rfl (fun ls hl => ?_)
                refine lv_goto (tgt := 74) hx hb dX0_determinant_89 (by decide) ?_
                refine lv_iload_n hx hb dX0_determinant_74 rfl (lv_at hl 0 rfl) ?_
                refine lv_iconst (v := nI 4) hx hb dX0_determinant_75 (by decide) ?_
                refine sp_icmp_ge (a := 4) (b := 4) (tgt := 92) hx hb dX0_determinant_76 (by decide) (by omega) (by omega) (fun c6 => ?_) (fun c6 => ?_)
                · skip
                  have hW : sp_Wd D (sp_wX ad dc (sp_aI nb) (S) (sp_aI (sp_dg (sp_E nb) sk)) (G) (sp_m1 (sp_pl nb) (sp_pl sk)) (kept) (top) (known) (go) (ne)) A s.heap H locs := hW
                  refine lv_aload_n hx hb dX0_determinant_92 rfl (lv_at hl 3 rfl) ?_
                  refine sp_get0 hC hW 9 (by decide) q49 rfl (v := .ref (ad 5)) rfl dX0_determinant_93 ?_
                  refine lv_iconst (v := nI 5) hx hb dX0_determinant_96 (by decide) ?_
                  refine lv_iload_n hx hb dX0_determinant_97 rfl (lv_at hl 1 rfl) ?_
                  refine lv_imul hx hb dX0_determinant_98 ?_
                  refine sp_top (y := nI 0) (pk_mul _ _) ?_
                  refine sp_iald hC hW 5 4 rfl rfl (k := 0) (v := (sp_m1 (sp_pl nb) (sp_pl sk)) (0)) (by omega) (by decide) rfl dX0_determinant_99 ?_
                  refine lv_istore_n (lv' := [(1, .int ((sp_m1 (sp_pl nb) (sp_pl sk)) (0))), (3, .int (nI 4)), (2, .int (nI 0)), (0, .ref (ad 0))]) hx hb dX0_determinant_100 rfl hl (by decide) rfl (fun ls hl => ?_)
                  refine lv_iinc (v := nI 1) (lv' := [(2, .int (nI 1)), (1, .int ((sp_m1 (sp_pl nb) (sp_pl sk)) (0))), (3, .int (nI 4)), (0, .ref (ad 0))]) hx hb dX0_determinant_101 hl (k := 2) rfl (nI_1 _) (by decide) rfl (fun ls hl => ?_)
                  refine lv_goto (tgt := 65) hx hb dX0_determinant_104 (by decide) ?_
                  refine lv_iload_n hx hb dX0_determinant_65 rfl (lv_at hl 0 rfl) ?_
                  refine lv_iconst (v := nI 4) hx hb dX0_determinant_66 (by decide) ?_
                  refine sp_icmp_ge (a := 1) (b := 4) (tgt := 107) hx hb dX0_determinant_67 (by decide) (by omega) (by omega) (fun c5 => ?_) (fun c5 => ?_)
                  · skip
                    exfalso; omega
                  · skip
                    refine lv_iload_n hx hb dX0_determinant_70 rfl (lv_at hl 0 rfl) ?_
                    refine lv_iconst (v := nI 1) hx hb dX0_determinant_71 (by decide) ?_
                    refine lv_iadd hx hb dX0_determinant_72 ?_
                    refine sp_top (y := nI 2) (nI_add _ _) ?_
                    refine lv_istore_n (lv' := [(3, .int (nI 2)), (2, .int (nI 1)), (1, .int ((sp_m1 (sp_pl nb) (sp_pl sk)) (0))), (0, .ref (ad 0))]) hx hb dX0_determinant_73 rfl hl (by decide) rfl (fun ls hl => ?_)
                    refine lv_iload_n hx hb dX0_determinant_74 rfl (lv_at hl 0 rfl) ?_
                    refine lv_iconst (v := nI 4) hx hb dX0_determinant_75 (by decide) ?_
                    refine sp_icmp_ge (a := 2) (b := 4) (tgt := 92) hx hb dX0_determinant_76 (by decide) (by omega) (by omega) (fun c6 => ?_) (fun c6 => ?_)
                    · skip
                      exfalso; omega
                    · skip
                      refine lv_aload_n hx hb dX0_determinant_79 rfl (lv_at hl 3 rfl) ?_
                      refine lv_iload_n hx hb dX0_determinant_80 rfl (lv_at hl 0 rfl) ?_
                      refine lv_iload_n hx hb dX0_determinant_81 rfl (lv_at hl 1 rfl) ?_
                      refine lv_iload_n hx hb dX0_determinant_82 rfl (lv_at hl 2 rfl) ?_
                      refine sp_callV (n := 3) (rest := []) hC hW (metX0_reduce l D ad dc _ _ _ _ (sp_m1 (sp_pl nb) (sp_pl sk)) _ _ _ _ _ 2 1 (by decide) (by decide) (by decide) (sp_m1 (sp_pl nb) (sp_pl sk) 0) (hd1)) q145 q147 qs10 q30 q148 rfl rfl rfl (by decide +kernel) ⟨by decide, by decide⟩ rfl hl rfl (Nat.le_of_ble_eq_true rfl) ⟨Nat.zero_le _, Nat.zero_le _⟩ dX0_determinant_83 (fun u H locs hp hW => ?_)
                      have hW : sp_Wd D (sp_wX ad dc (sp_aI nb) (S) (sp_aI (sp_dg (sp_E nb) sk)) (G) (sp_rd (sp_m1 (sp_pl nb) (sp_pl sk)) 2 1 (sp_m1 (sp_pl nb) (sp_pl sk) 0)) (kept) (top) (known) (go) (ne)) A s.heap H locs := hW
                      refine lv_iinc (v := nI 3) (lv' := [(3, .int (nI 3)), (2, .int (nI 1)), (1, .int ((sp_m1 (sp_pl nb) (sp_pl sk)) (0))), (0, .ref (ad 0))]) hx hb dX0_determinant_86 hl (k := 0) rfl (nI_1 _) (by decide) rfl (fun ls hl => ?_)
                      refine lv_goto (tgt := 74) hx hb dX0_determinant_89 (by decide) ?_
                      refine lv_iload_n hx hb dX0_determinant_74 rfl (lv_at hl 0 rfl) ?_
                      refine lv_iconst (v := nI 4) hx hb dX0_determinant_75 (by decide) ?_
                      refine sp_icmp_ge (a := 3) (b := 4) (tgt := 92) hx hb dX0_determinant_76 (by decide) (by omega) (by omega) (fun c6 => ?_) (fun c6 => ?_)
                      · skip
                        exfalso; omega
                      · skip
                        refine lv_aload_n hx hb dX0_determinant_79 rfl (lv_at hl 3 rfl) ?_
                        refine lv_iload_n hx hb dX0_determinant_80 rfl (lv_at hl 0 rfl) ?_
                        refine lv_iload_n hx hb dX0_determinant_81 rfl (lv_at hl 1 rfl) ?_
                        refine lv_iload_n hx hb dX0_determinant_82 rfl (lv_at hl 2 rfl) ?_
                        refine sp_callV (n := 3) (rest := []) hC hW (metX0_reduce l D ad dc _ _ _ _ (sp_rd (sp_m1 (sp_pl nb) (sp_pl sk)) 2 1 (sp_m1 (sp_pl nb) (sp_pl sk) 0)) _ _ _ _ _ 3 1 (by decide) (by decide) (by decide) (sp_m1 (sp_pl nb) (sp_pl sk) 0) (hd1)) q145 q147 qs10 q30 q148 rfl rfl rfl (by decide +kernel) ⟨by decide, by decide⟩ rfl hl rfl (Nat.le_of_ble_eq_true rfl) ⟨Nat.zero_le _, Nat.zero_le _⟩ dX0_determinant_83 (fun u H locs hp hW => ?_)
                        have hW : sp_Wd D (sp_wX ad dc (sp_aI nb) (S) (sp_aI (sp_dg (sp_E nb) sk)) (G) (sp_rd (sp_rd (sp_m1 (sp_pl nb) (sp_pl sk)) 2 1 (sp_m1 (sp_pl nb) (sp_pl sk) 0)) 3 1 (sp_m1 (sp_pl nb) (sp_pl sk) 0)) (kept) (top) (known) (go) (ne)) A s.heap H locs := hW
                        refine lv_iinc (v := nI 4) (lv' := [(3, .int (nI 4)), (2, .int (nI 1)), (1, .int ((sp_m1 (sp_pl nb) (sp_pl sk)) (0))), (0, .ref (ad 0))]) hx hb dX0_determinant_86 hl (k := 0) rfl (nI_1 _) (by decide) rfl (fun ls hl => ?_)
                        refine lv_goto (tgt := 74) hx hb dX0_determinant_89 (by decide) ?_
                        refine lv_iload_n hx hb dX0_determinant_74 rfl (lv_at hl 0 rfl) ?_
                        refine lv_iconst (v := nI 4) hx hb dX0_determinant_75 (by decide) ?_
                        refine sp_icmp_ge (a := 4) (b := 4) (tgt := 92) hx hb dX0_determinant_76 (by decide) (by omega) (by omega) (fun c6 => ?_) (fun c6 => ?_)
                        · skip
                          have hW : sp_Wd D (sp_wX ad dc (sp_aI nb) (S) (sp_aI (sp_dg (sp_E nb) sk)) (G) (sp_m2 (sp_pl nb) (sp_pl sk)) (kept) (top) (known) (go) (ne)) A s.heap H locs := hW
                          refine lv_aload_n hx hb dX0_determinant_92 rfl (lv_at hl 3 rfl) ?_
                          refine sp_get0 hC hW 9 (by decide) q49 rfl (v := .ref (ad 5)) rfl dX0_determinant_93 ?_
                          refine lv_iconst (v := nI 5) hx hb dX0_determinant_96 (by decide) ?_
                          refine lv_iload_n hx hb dX0_determinant_97 rfl (lv_at hl 1 rfl) ?_
                          refine lv_imul hx hb dX0_determinant_98 ?_
                          refine sp_top (y := nI 5) (pk_mul _ _) ?_
                          refine sp_iald hC hW 5 4 rfl rfl (k := 5) (v := (sp_m2 (sp_pl nb) (sp_pl sk)) (5)) (by omega) (by decide) rfl dX0_determinant_99 ?_
                          refine lv_istore_n (lv' := [(1, .int ((sp_m2 (sp_pl nb) (sp_pl sk)) (5))), (3, .int (nI 4)), (2, .int (nI 1)), (0, .ref (ad 0))]) hx hb dX0_determinant_100 rfl hl (by decide) rfl (fun ls hl => ?_)
                          refine lv_iinc (v := nI 2) (lv' := [(2, .int (nI 2)), (1, .int ((sp_m2 (sp_pl nb) (sp_pl sk)) (5))), (3, .int (nI 4)), (0, .ref (ad 0))]) hx hb dX0_determinant_101 hl (k := 2) rfl (nI_1 _) (by decide) rfl (fun ls hl => ?_)
                          refine lv_goto (tgt := 65) hx hb dX0_determinant_104 (by decide) ?_
                          refine lv_iload_n hx hb dX0_determinant_65 rfl (lv_at hl 0 rfl) ?_
                          refine lv_iconst (v := nI 4) hx hb dX0_determinant_66 (by decide) ?_
                          refine sp_icmp_ge (a := 2) (b := 4) (tgt := 107) hx hb dX0_determinant_67 (by decide) (by omega) (by omega) (fun c5 => ?_) (fun c5 => ?_)
                          · skip
                            exfalso; omega
                          · skip
                            refine lv_iload_n hx hb dX0_determinant_70 rfl (lv_at hl 0 rfl) ?_
                            refine lv_iconst (v := nI 1) hx hb dX0_determinant_71 (by decide) ?_
                            refine lv_iadd hx hb dX0_determinant_72 ?_
                            refine sp_top (y := nI 3) (nI_add _ _) ?_
                            refine lv_istore_n (lv' := [(3, .int (nI 3)), (2, .int (nI 2)), (1, .int ((sp_m2 (sp_pl nb) (sp_pl sk)) (5))), (0, .ref (ad 0))]) hx hb dX0_determinant_73 rfl hl (by decide) rfl (fun ls hl => ?_)
                            refine lv_iload_n hx hb dX0_determinant_74 rfl (lv_at hl 0 rfl) ?_
                            refine lv_iconst (v := nI 4) hx hb dX0_determinant_75 (by decide) ?_
                            refine sp_icmp_ge (a := 3) (b := 4) (tgt := 92) hx hb dX0_determinant_76 (by decide) (by omega) (by omega) (fun c6 => ?_) (fun c6 => ?_)
                            · skip
                              exfalso; omega
                            · skip
                              refine lv_aload_n hx hb dX0_determinant_79 rfl (lv_at hl 3 rfl) ?_
                              refine lv_iload_n hx hb dX0_determinant_80 rfl (lv_at hl 0 rfl) ?_
                              refine lv_iload_n hx hb dX0_determinant_81 rfl (lv_at hl 1 rfl) ?_
                              refine lv_iload_n hx hb dX0_determinant_82 rfl (lv_at hl 2 rfl) ?_
                              refine sp_callV (n := 3) (rest := []) hC hW (metX0_reduce l D ad dc _ _ _ _ (sp_m2 (sp_pl nb) (sp_pl sk)) _ _ _ _ _ 3 2 (by decide) (by decide) (by decide) (sp_m2 (sp_pl nb) (sp_pl sk) 5) (hd2)) q145 q147 qs10 q30 q148 rfl rfl rfl (by decide +kernel) ⟨by decide, by decide⟩ rfl hl rfl (Nat.le_of_ble_eq_true rfl) ⟨Nat.zero_le _, Nat.zero_le _⟩ dX0_determinant_83 (fun u H locs hp hW => ?_)
                              have hW : sp_Wd D (sp_wX ad dc (sp_aI nb) (S) (sp_aI (sp_dg (sp_E nb) sk)) (G) (sp_rd (sp_m2 (sp_pl nb) (sp_pl sk)) 3 2 (sp_m2 (sp_pl nb) (sp_pl sk) 5)) (kept) (top) (known) (go) (ne)) A s.heap H locs := hW
                              refine lv_iinc (v := nI 4) (lv' := [(3, .int (nI 4)), (2, .int (nI 2)), (1, .int ((sp_m2 (sp_pl nb) (sp_pl sk)) (5))), (0, .ref (ad 0))]) hx hb dX0_determinant_86 hl (k := 0) rfl (nI_1 _) (by decide) rfl (fun ls hl => ?_)
                              refine lv_goto (tgt := 74) hx hb dX0_determinant_89 (by decide) ?_
                              refine lv_iload_n hx hb dX0_determinant_74 rfl (lv_at hl 0 rfl) ?_
                              refine lv_iconst (v := nI 4) hx hb dX0_determinant_75 (by decide) ?_
                              refine sp_icmp_ge (a := 4) (b := 4) (tgt := 92) hx hb dX0_determinant_76 (by decide) (by omega) (by omega) (fun c6 => ?_) (fun c6 => ?_)
                              · skip
                                have hW : sp_Wd D (sp_wX ad dc (sp_aI nb) (S) (sp_aI (sp_dg (sp_E nb) sk)) (G) (sp_m3 (sp_pl nb) (sp_pl sk)) (kept) (top) (known) (go) (ne)) A s.heap H locs := hW
                                refine lv_aload_n hx hb dX0_determinant_92 rfl (lv_at hl 3 rfl) ?_
                                refine sp_get0 hC hW 9 (by decide) q49 rfl (v := .ref (ad 5)) rfl dX0_determinant_93 ?_
                                refine lv_iconst (v := nI 5) hx hb dX0_determinant_96 (by decide) ?_
                                refine lv_iload_n hx hb dX0_determinant_97 rfl (lv_at hl 1 rfl) ?_
                                refine lv_imul hx hb dX0_determinant_98 ?_
                                refine sp_top (y := nI 10) (pk_mul _ _) ?_
                                refine sp_iald hC hW 5 4 rfl rfl (k := 10) (v := (sp_m3 (sp_pl nb) (sp_pl sk)) (10)) (by omega) (by decide) rfl dX0_determinant_99 ?_
                                refine lv_istore_n (lv' := [(1, .int ((sp_m3 (sp_pl nb) (sp_pl sk)) (10))), (3, .int (nI 4)), (2, .int (nI 2)), (0, .ref (ad 0))]) hx hb dX0_determinant_100 rfl hl (by decide) rfl (fun ls hl => ?_)
                                refine lv_iinc (v := nI 3) (lv' := [(2, .int (nI 3)), (1, .int ((sp_m3 (sp_pl nb) (sp_pl sk)) (10))), (3, .int (nI 4)), (0, .ref (ad 0))]) hx hb dX0_determinant_101 hl (k := 2) rfl (nI_1 _) (by decide) rfl (fun ls hl => ?_)
                                refine lv_goto (tgt := 65) hx hb dX0_determinant_104 (by decide) ?_
                                refine lv_iload_n hx hb dX0_determinant_65 rfl (lv_at hl 0 rfl) ?_
                                refine lv_iconst (v := nI 4) hx hb dX0_determinant_66 (by decide) ?_
                                refine sp_icmp_ge (a := 3) (b := 4) (tgt := 107) hx hb dX0_determinant_67 (by decide) (by omega) (by omega) (fun c5 => ?_) (fun c5 => ?_)
                                · skip
                                  exfalso; omega
                                · skip
                                  refine lv_iload_n hx hb dX0_determinant_70 rfl (lv_at hl 0 rfl) ?_
                                  refine lv_iconst (v := nI 1) hx hb dX0_determinant_71 (by decide) ?_
                                  refine lv_iadd hx hb dX0_determinant_72 ?_
                                  refine sp_top (y := nI 4) (nI_add _ _) ?_
                                  refine lv_istore_n (lv' := [(3, .int (nI 4)), (2, .int (nI 3)), (1, .int ((sp_m3 (sp_pl nb) (sp_pl sk)) (10))), (0, .ref (ad 0))]) hx hb dX0_determinant_73 rfl hl (by decide) rfl (fun ls hl => ?_)
                                  refine lv_iload_n hx hb dX0_determinant_74 rfl (lv_at hl 0 rfl) ?_
                                  refine lv_iconst (v := nI 4) hx hb dX0_determinant_75 (by decide) ?_
                                  refine sp_icmp_ge (a := 4) (b := 4) (tgt := 92) hx hb dX0_determinant_76 (by decide) (by omega) (by omega) (fun c6 => ?_) (fun c6 => ?_)
                                  · skip
                                    refine lv_aload_n hx hb dX0_determinant_92 rfl (lv_at hl 3 rfl) ?_
                                    refine sp_get0 hC hW 9 (by decide) q49 rfl (v := .ref (ad 5)) rfl dX0_determinant_93 ?_
                                    refine lv_iconst (v := nI 5) hx hb dX0_determinant_96 (by decide) ?_
                                    refine lv_iload_n hx hb dX0_determinant_97 rfl (lv_at hl 1 rfl) ?_
                                    refine lv_imul hx hb dX0_determinant_98 ?_
                                    refine sp_top (y := nI 15) (pk_mul _ _) ?_
                                    refine sp_iald hC hW 5 4 rfl rfl (k := 15) (v := (sp_m3 (sp_pl nb) (sp_pl sk)) (15)) (by omega) (by decide) rfl dX0_determinant_99 ?_
                                    refine lv_istore_n (lv' := [(1, .int ((sp_m3 (sp_pl nb) (sp_pl sk)) (15))), (3, .int (nI 4)), (2, .int (nI 3)), (0, .ref (ad 0))]) hx hb dX0_determinant_100 rfl hl (by decide) rfl (fun ls hl => ?_)
                                    refine lv_iinc (v := nI 4) (lv' := [(2, .int (nI 4)), (1, .int ((sp_m3 (sp_pl nb) (sp_pl sk)) (15))), (3, .int (nI 4)), (0, .ref (ad 0))]) hx hb dX0_determinant_101 hl (k := 2) rfl (nI_1 _) (by decide) rfl (fun ls hl => ?_)
                                    refine lv_goto (tgt := 65) hx hb dX0_determinant_104 (by decide) ?_
                                    refine lv_iload_n hx hb dX0_determinant_65 rfl (lv_at hl 0 rfl) ?_
                                    refine lv_iconst (v := nI 4) hx hb dX0_determinant_66 (by decide) ?_
                                    refine sp_icmp_ge (a := 4) (b := 4) (tgt := 107) hx hb dX0_determinant_67 (by decide) (by omega) (by omega) (fun c5 => ?_) (fun c5 => ?_)
                                    · skip
                                      refine lv_iload_n hx hb dX0_determinant_107 rfl (lv_at hl 1 rfl) ?_
                                      exact hret _ _ _ _ _ (_) dX0_determinant_108 (rfl) (hd15) hW
                                    · skip
                                      exfalso; omega
                                  · exfalso; omega
                              · exfalso; omega
                        · exfalso; omega
                · exfalso; omega
      · skip
        exfalso; omega
    | succ na iha =>
      intro i g1 hi_i hg H locs ls hW hl
      refine lv_iload_n hx hb dX0_determinant_2 rfl (lv_at hl 1 rfl) ?_
      refine lv_iconst (v := nI 4) hx hb dX0_determinant_3 (by decide) ?_
      refine sp_icmp_ge (a := i) (b := 4) (tgt := 61) hx hb dX0_determinant_4 (by decide) (by omega) (by omega) (fun c => ?_) (fun c => ?_)
      · skip
        exfalso; omega
      · skip
        refine lv_iconst (v := nI 0) hx hb dX0_determinant_7 (by decide) ?_
        refine lv_istore_n (lv' := [(2, .int (nI 0)), (0, .ref (ad 0)), (1, .int (nI i))]) hx hb dX0_determinant_8 rfl hl (by decide) rfl (fun ls hl => ?_)
        have lb : ∀ (nb_ j : Nat) (g2 : Nat → Int32), j + nb_ = 4 → (∀ q, q < 4 * i + j → g2 q = sp_m0 (sp_pl nb) (sp_pl sk) q) → ∀ (H : Heap) (locs : List Loc) (ls : Array Slot), sp_Wd D (sp_wX ad dc (sp_aI nb) (S) (sp_aI (sp_dg (sp_E nb) sk)) (G) (g2) (kept) (top) (known) (go) (ne)) A s.heap H locs → lv_has ls 4 [(0, .ref (ad 0)), (1, .int (nI i)), (2, .int (nI j))] → W pg l ev ({ frames := 1, cells := 0, slots := 0, locals := 26 } : Room) s mi args below meth cd H locs 0 0 Q (F0 mi 9 ls []) := by
          intro nb_
          induction nb_ with
          | zero =>
            intro j g2 hi_j hg2 H locs ls hW hl
            refine lv_iload_n hx hb dX0_determinant_9 rfl (lv_at hl 2 rfl) ?_
            refine lv_iconst (v := nI 4) hx hb dX0_determinant_10 (by decide) ?_
            refine sp_icmp_ge (a := j) (b := 4) (tgt := 55) hx hb dX0_determinant_11 (by decide) (by omega) (by omega) (fun c => ?_) (fun c => ?_)
            · skip
              have e4 : j = 4 := by omega
              subst e4
              refine lv_iinc (v := nI (i + 1)) (lv' := [(1, .int (nI (i + 1))), (0, .ref (ad 0)), (2, .int (nI 4))]) hx hb dX0_determinant_55 hl (k := 1) rfl (nI_1 _) (by decide) rfl (fun ls hl => ?_)
              refine lv_goto (tgt := 2) hx hb dX0_determinant_58 (by decide) ?_
              exact iha (i + 1) _ (by omega) (fun q hq => hg2 q (by omega)) _ _ _ hW (lv_sub hl [1, 0] rfl)
            · skip
              exfalso; omega
          | succ nb_ ihb =>
            intro j g2 hi_j hg2 H locs ls hW hl
            refine lv_iload_n hx hb dX0_determinant_9 rfl (lv_at hl 2 rfl) ?_
            refine lv_iconst (v := nI 4) hx hb dX0_determinant_10 (by decide) ?_
            refine sp_icmp_ge (a := j) (b := 4) (tgt := 55) hx hb dX0_determinant_11 (by decide) (by omega) (by omega) (fun c => ?_) (fun c => ?_)
            · skip
              exfalso; omega
            · skip
              refine lv_aload_n hx hb dX0_determinant_14 rfl (lv_at hl 0 rfl) ?_
              refine sp_get0 hC hW 9 (by decide) q49 rfl (v := .ref (ad 5)) rfl dX0_determinant_15 ?_
              refine lv_iconst (v := nI 4) hx hb dX0_determinant_18 (by decide) ?_
              refine lv_iload_n hx hb dX0_determinant_19 rfl (lv_at hl 1 rfl) ?_
              refine lv_imul hx hb dX0_determinant_20 ?_
              refine sp_top (y := nI (4 * i)) (pk_mul _ _) ?_
              refine lv_iload_n hx hb dX0_determinant_21 rfl (lv_at hl 2 rfl) ?_
              refine lv_iadd hx hb dX0_determinant_22 ?_
              refine sp_top (y := nI (4 * i + j)) (nI_add _ _) ?_
              refine lv_iload_n hx hb dX0_determinant_23 rfl (lv_at hl 1 rfl) ?_
              refine lv_iload_n hx hb dX0_determinant_24 rfl (lv_at hl 2 rfl) ?_
              refine sp_icmp_ne (a := i) (b := j) (tgt := 37) hx hb dX0_determinant_25 (by decide) (by omega) (by omega) (fun ce => ?_) (fun ce => ?_)
              · skip
                refine lv_aload_n hx hb dX0_determinant_37 rfl (lv_at hl 0 rfl) ?_
                refine sp_get0 hC hW 0 (by decide) q40 rfl (v := .ref (ad 1)) rfl dX0_determinant_38 ?_
                refine lv_iload_n hx hb dX0_determinant_41 rfl (lv_at hl 1 rfl) ?_
                refine sp_bald hC hW 1 0 rfl rfl (k := i) (v := nI (nb i)) (by omega) (by decide) rfl dX0_determinant_42 ?_
                refine lv_iload_n hx hb dX0_determinant_43 rfl (lv_at hl 2 rfl) ?_
                refine lv_ishr hx hb dX0_determinant_44 ?_
                refine lv_iconst (v := nI 1) hx hb dX0_determinant_45 (by decide) ?_
                refine lv_iand hx hb dX0_determinant_46 ?_
                refine sp_top (y := nI (sp_E nb i j)) (sp_bit (by have := (hok.1 i (by omega)).1; omega) (by omega)) ?_
                refine lv_ineg hx hb dX0_determinant_47 ?_
                have hm0 : sp_m0 (sp_pl nb) (sp_pl sk) (4 * i + j) = -nI (sp_E nb i j) := by
                  unfold sp_m0
                  rw [show (4 * i + j) / 4 = i by omega, show (4 * i + j) % 4 = j by omega, if_neg ce, sp_E_pl nb i (by omega)]
                refine sp_iast hC hW 5 4 rfl rfl (k := 4 * i + j) (x := -nI (sp_E nb i j)) (by omega) (by decide) (fun q => if q = 4 * i + j then -nI (sp_E nb i j) else g2 q) (fun _ _ => rfl) dX0_determinant_48 (fun H locs hW => ?_)
                have hW : sp_Wd D (sp_wX ad dc (sp_aI nb) (S) (sp_aI (sp_dg (sp_E nb) sk)) (G) (fun q => if q = 4 * i + j then -nI (sp_E nb i j) else g2 q) (kept) (top) (known) (go) (ne)) A s.heap H locs := hW
                refine lv_iinc (v := nI (j + 1)) (lv' := [(2, .int (nI (j + 1))), (0, .ref (ad 0)), (1, .int (nI i))]) hx hb dX0_determinant_49 hl (k := 2) rfl (nI_1 _) (by decide) rfl (fun ls hl => ?_)
                refine lv_goto (tgt := 9) hx hb dX0_determinant_52 (by decide) ?_
                exact ihb (j + 1) _ (by omega) (lt_s (i := 4 * i + j) (fun q hq => by show (if q = 4 * i + j then _ else g2 q) = _; rw [if_neg (by omega)]; exact hg2 q hq) (by show (if 4 * i + j = 4 * i + j then _ else _) = _; rw [if_pos rfl]; exact hm0.symm)) _ _ _ hW (lv_sub hl [1, 2, 0] rfl)
              · skip
                refine lv_aload_n hx hb dX0_determinant_28 rfl (lv_at hl 0 rfl) ?_
                refine sp_get0 hC hW 2 (by decide) q42 rfl (v := .ref (ad 3)) rfl dX0_determinant_29 ?_
                refine lv_iload_n hx hb dX0_determinant_32 rfl (lv_at hl 1 rfl) ?_
                refine sp_bald hC hW 3 2 rfl rfl (k := i) (v := nI (sp_dg (sp_E nb) sk i)) (by omega) (by decide) rfl dX0_determinant_33 ?_
                refine lv_goto (tgt := 48) hx hb dX0_determinant_34 (by decide) ?_
                have hm0 : sp_m0 (sp_pl nb) (sp_pl sk) (4 * i + j) = nI (sp_dg (sp_E nb) sk i) := by
                  unfold sp_m0
                  rw [show (4 * i + j) / 4 = i by omega, show (4 * i + j) % 4 = j by omega, if_pos ce, sp_dg_pl nb sk i (by omega)]
                refine sp_iast hC hW 5 4 rfl rfl (k := 4 * i + j) (x := nI (sp_dg (sp_E nb) sk i)) (by omega) (by decide) (fun q => if q = 4 * i + j then nI (sp_dg (sp_E nb) sk i) else g2 q) (fun _ _ => rfl) dX0_determinant_48 (fun H locs hW => ?_)
                have hW : sp_Wd D (sp_wX ad dc (sp_aI nb) (S) (sp_aI (sp_dg (sp_E nb) sk)) (G) (fun q => if q = 4 * i + j then nI (sp_dg (sp_E nb) sk i) else g2 q) (kept) (top) (known) (go) (ne)) A s.heap H locs := hW
                refine lv_iinc (v := nI (j + 1)) (lv' := [(2, .int (nI (j + 1))), (0, .ref (ad 0)), (1, .int (nI i))]) hx hb dX0_determinant_49 hl (k := 2) rfl (nI_1 _) (by decide) rfl (fun ls hl => ?_)
                refine lv_goto (tgt := 9) hx hb dX0_determinant_52 (by decide) ?_
                exact ihb (j + 1) _ (by omega) (lt_s (i := 4 * i + j) (fun q hq => by show (if q = 4 * i + j then _ else g2 q) = _; rw [if_neg (by omega)]; exact hg2 q hq) (by show (if 4 * i + j = 4 * i + j then _ else _) = _; rw [if_pos rfl]; exact hm0.symm)) _ _ _ hW (lv_sub hl [1, 2, 0] rfl)
        exact lb 4 0 g1 (by omega) hg _ _ _ hW (lv_sub hl [1, 2, 0] rfl)
  exact la 4 0 M (by omega) (fun q hq => by omega) _ _ _ hW (lv_sub hl [1, 0] rfl)
end
section
set_option maxRecDepth 100000
/-! what the public methods answer and keep: the same words for both objects -/
def sp_isR (nb sk : Nat → Nat) (x : Int32) : Prop := ∃ j, j < 4096 ∧ x = nI j ∧ sp_RecS nb sk j
def sp_Kn (nb sk : Nat → Nat) (known go ne : Int32) : Prop := known = nI 0 ∨ (known = nI 1 ∧ go = nI (sp_cn nb sk) ∧ ne = nI (sp_ne nb sk))
noncomputable def sp_ite {α : Type} (c : Prop) (x y : α) : α := @ite α c (Classical.propDecidable c) x y
theorem sp_ite_p {α : Type} {c : Prop} {x y : α} (h : c) : sp_ite c x y = x := if_pos h
theorem sp_ite_n {α : Type} {c : Prop} {x y : α} (h : ¬ c) : sp_ite c x y = y := if_neg h
/-- a yes or no -/
def sp_QB (c : Prop) (r : Int32) : Prop := (c → r = nI 1) ∧ (¬ c → r = nI 0)
/-- a value, or -1 -/
def sp_QV (c : Prop) (v r : Int32) : Prop := (c → r = v) ∧ (¬ c → r = -1)
theorem sp_QB.uni {c : Prop} {r r' : Int32} (h : sp_QB c r) (h' : sp_QB c r') : r = r' := by
  by_cases q : c
  · rw [h.1 q, h'.1 q]
  · rw [h.2 q, h'.2 q]
theorem sp_QV.uni {c : Prop} {v r r' : Int32} (h : sp_QV c v r) (h' : sp_QV c v r') : r = r' := by
  by_cases q : c
  · rw [h.1 q, h'.1 q]
  · rw [h.2 q, h'.2 q]
theorem sp_QB.p {c : Prop} (h : c) : sp_QB c (nI 1) := ⟨fun _ => rfl, fun q => absurd h q⟩
theorem sp_QB.n {c : Prop} (h : ¬ c) : sp_QB c (nI 0) := ⟨fun q => absurd q h, fun _ => rfl⟩
theorem sp_QV.p {c : Prop} {v r : Int32} (h : c) (e : r = v) : sp_QV c v r := ⟨fun _ => e, fun q => absurd h q⟩
theorem sp_QV.n {c : Prop} {v : Int32} (h : ¬ c) : sp_QV c v (-1) := ⟨fun q => absurd q h, fun _ => rfl⟩
theorem sp_isP_nI {k : Nat} (h : k < 4) : sp_isP (nI k) := ⟨nI_pos (by omega), (nI_ltI (b := 4) (by omega) (by decide)).mpr h⟩
theorem sp_isS_nI {nb sk : Nat → Nat} {k : Nat} (h : k < 4096) : sp_isS nb sk (nI k) ↔ sp_SbS nb sk k := by
  constructor
  · rintro ⟨j, hj, e, hs⟩
    have e := (nI_eq (by omega) (by omega)).mp e
    subst e
    exact hs
  · intro hs
    exact ⟨k, h, rfl, hs⟩
theorem sp_isR_nI {nb sk : Nat → Nat} {k : Nat} (h : k < 4096) : sp_isR nb sk (nI k) ↔ sp_RecS nb sk k := by
  constructor
  · rintro ⟨j, hj, e, hs⟩
    have e := (nI_eq (by omega) (by omega)).mp e
    subst e
    exact hs
  · intro hs
    exact ⟨k, h, rfl, hs⟩
/-! edges -/
def sp_e1 (nb : Nat → Nat) (a b : Nat) : Nat → Nat := sp_up (sp_up nb a (nb a ||| 2 ^ b)) b (nb b ||| 2 ^ a)
def sp_e0 (nb : Nat → Nat) (a b : Nat) : Nat → Nat := sp_up (sp_up nb a (nb a &&& (15 ^^^ 2 ^ b))) b (nb b &&& (15 ^^^ 2 ^ a))
theorem sp_an_b : ∀ m, m < 16 → ∀ a, a < 4 → (m &&& (15 ^^^ 2 ^ a)) < 16 ∧ (∀ b, b < 4 → b ≠ a → (m &&& (15 ^^^ 2 ^ a)) / 2 ^ b % 2 = m / 2 ^ b % 2) ∧ (m &&& (15 ^^^ 2 ^ a)) / 2 ^ a % 2 = 0 := by decide +kernel
theorem sp_eg_ok {nb sk nb2 : Nat → Nat} (h : sp_Ok nb sk) {a b v : Nat} (ha : a < 4) (hb : b < 4) (hab : a ≠ b) (h1 : ∀ k, k < 4 → nb2 k < 16) (h2 : ∀ x y, x < 4 → y < 4 → sp_E nb2 x y = if (x = a ∧ y = b) ∨ (x = b ∧ y = a) then v else sp_E nb x y) : sp_Ok nb2 sk := by
  refine ⟨fun k hk => ⟨h1 k hk, (h.1 k hk).2.1, (h.1 k hk).2.2.1, ?_⟩, fun x y hx hy => ?_⟩
  · rw [h2 k k hk hk, if_neg (by omega)]; exact (h.1 k hk).2.2.2
  · rw [h2 x y hx hy, h2 y x hy hx]
    by_cases q : (x = a ∧ y = b) ∨ (x = b ∧ y = a)
    · rw [if_pos q, if_pos (by omega)]
    · rw [if_neg q, if_neg (by omega)]; exact h.2 x y hx hy
theorem sp_e1_ok {nb sk : Nat → Nat} (h : sp_Ok nb sk) {a b : Nat} (ha : a < 4) (hb : b < 4) (hab : a ≠ b) : sp_Ok (sp_e1 nb a b) sk := by
  have na := (h.1 a ha).1
  have nb' := (h.1 b hb).1
  have oa := sp_or_b _ na b hb
  have ob := sp_or_b _ nb' a ha
  have va : sp_e1 nb a b a = nb a ||| 2 ^ b := by simp [sp_e1, sp_up, hab]
  have vb : sp_e1 nb a b b = nb b ||| 2 ^ a := by simp [sp_e1, sp_up]
  have vo : ∀ k, k ≠ a → k ≠ b → sp_e1 nb a b k = nb k := fun k h1 h2 => by simp [sp_e1, sp_up, h1, h2]
  refine sp_eg_ok (v := 1) h ha hb hab (fun k hk => ?_) (fun x y hx hy => ?_)
  · by_cases e1 : k = a
    · rw [e1, va]; exact oa.1
    · by_cases e2 : k = b
      · rw [e2, vb]; exact ob.1
      · rw [vo k e1 e2]; exact (h.1 k hk).1
  · by_cases e1 : x = a
    · subst e1
      unfold sp_E
      rw [va]
      by_cases e2 : y = b
      · subst e2; rw [oa.2.2.2.2, if_pos (by omega)]
      · rw [oa.2.2.2.1 y hy e2, if_neg (by omega)]
    · by_cases e3 : x = b
      · subst e3
        unfold sp_E
        rw [vb]
        by_cases e2 : y = a
        · subst e2; rw [ob.2.2.2.2, if_pos (by omega)]
        · rw [ob.2.2.2.1 y hy e2, if_neg (by omega)]
      · unfold sp_E
        rw [vo x e1 e3, if_neg (by omega)]
theorem sp_e0_ok {nb sk : Nat → Nat} (h : sp_Ok nb sk) {a b : Nat} (ha : a < 4) (hb : b < 4) (hab : a ≠ b) : sp_Ok (sp_e0 nb a b) sk := by
  have na := (h.1 a ha).1
  have nb' := (h.1 b hb).1
  have oa := sp_an_b _ na b hb
  have ob := sp_an_b _ nb' a ha
  have va : sp_e0 nb a b a = nb a &&& (15 ^^^ 2 ^ b) := by simp [sp_e0, sp_up, hab]
  have vb : sp_e0 nb a b b = nb b &&& (15 ^^^ 2 ^ a) := by simp [sp_e0, sp_up]
  have vo : ∀ k, k ≠ a → k ≠ b → sp_e0 nb a b k = nb k := fun k h1 h2 => by simp [sp_e0, sp_up, h1, h2]
  refine sp_eg_ok (v := 0) h ha hb hab (fun k hk => ?_) (fun x y hx hy => ?_)
  · by_cases e1 : k = a
    · rw [e1, va]; exact oa.1
    · by_cases e2 : k = b
      · rw [e2, vb]; exact ob.1
      · rw [vo k e1 e2]; exact (h.1 k hk).1
  · by_cases e1 : x = a
    · subst e1
      unfold sp_E
      rw [va]
      by_cases e2 : y = b
      · subst e2; rw [oa.2.2, if_pos (by omega)]
      · rw [oa.2.1 y hy e2, if_neg (by omega)]
    · by_cases e3 : x = b
      · subst e3
        unfold sp_E
        rw [vb]
        by_cases e2 : y = a
        · subst e2; rw [ob.2.2, if_pos (by omega)]
        · rw [ob.2.1 y hy e2, if_neg (by omega)]
      · unfold sp_E
        rw [vo x e1 e3, if_neg (by omega)]
def sp_eC (a b : Int32) : Prop := sp_isP a ∧ sp_isP b ∧ ¬ a = b
noncomputable def sp_nbE (nb : Nat → Nat) (a b t : Int32) : Nat → Nat := sp_ite (sp_eC a b) (sp_ite (t = 0) (sp_e0 nb a.toNatClampNeg b.toNatClampNeg) (sp_e1 nb a.toNatClampNeg b.toNatClampNeg)) nb
noncomputable def sp_kpE (kp : Nat) (a b : Int32) : Nat := sp_ite (sp_eC a b) 0 kp
theorem sp_nbE_1 {nb : Nat → Nat} {a b : Nat} {t : Int32} (ha : a < 4) (hb : b < 4) (hab : a ≠ b) (ht : ¬ t = 0) : sp_nbE nb (nI a) (nI b) t = sp_e1 nb a b := by
  unfold sp_nbE
  rw [sp_ite_p ⟨sp_isP_nI ha, sp_isP_nI hb, fun e => hab ((nI_eq (by omega) (by omega)).mp e)⟩, sp_ite_n ht, nI_clamp (by omega), nI_clamp (by omega)]
theorem sp_nbE_0 {nb : Nat → Nat} {a b : Nat} {t : Int32} (ha : a < 4) (hb : b < 4) (hab : a ≠ b) (ht : t = 0) : sp_nbE nb (nI a) (nI b) t = sp_e0 nb a b := by
  unfold sp_nbE
  rw [sp_ite_p ⟨sp_isP_nI ha, sp_isP_nI hb, fun e => hab ((nI_eq (by omega) (by omega)).mp e)⟩, sp_ite_p ht, nI_clamp (by omega), nI_clamp (by omega)]
theorem sp_eC_nI {a b : Nat} (ha : a < 4) (hb : b < 4) (hab : a ≠ b) : sp_eC (nI a) (nI b) := ⟨sp_isP_nI ha, sp_isP_nI hb, fun e => hab ((nI_eq (by omega) (by omega)).mp e)⟩
theorem sp_nbE_n {nb : Nat → Nat} {a b t : Int32} (h : ¬ sp_eC a b) : sp_nbE nb a b t = nb := sp_ite_n h
theorem sp_kpE_n {kp : Nat} {a b : Int32} (h : ¬ sp_eC a b) : sp_kpE kp a b = kp := sp_ite_n h
theorem sp_kpE_p {kp : Nat} {a b : Int32} (h : sp_eC a b) : sp_kpE kp a b = 0 := sp_ite_p h
theorem sp_nbE_ok {nb sk : Nat → Nat} (h : sp_Ok nb sk) (a b t : Int32) : sp_Ok (sp_nbE nb a b t) sk := by
  by_cases q : sp_eC a b
  · obtain ⟨ka, hka, rfl⟩ := sp_pl4 q.1.1 q.1.2
    obtain ⟨kb, hkb, rfl⟩ := sp_pl4 q.2.1.1 q.2.1.2
    have hab : ka ≠ kb := fun e => q.2.2 (by rw [e])
    by_cases ht : t = 0
    · rw [sp_nbE_0 hka hkb hab ht]; exact sp_e0_ok h hka hkb hab
    · rw [sp_nbE_1 hka hkb hab ht]; exact sp_e1_ok h hka hkb hab
  · rw [sp_nbE_n q]; exact h
/-! sinks -/
def sp_sC (a t : Int32) : Prop := sp_isP a ∧ ¬ t < 1 ∧ t ≤ 2
noncomputable def sp_skS (sk : Nat → Nat) (a t : Int32) : Nat → Nat := sp_ite (sp_sC a t) (sp_up sk a.toNatClampNeg t.toNatClampNeg) sk
noncomputable def sp_kpS (kp : Nat) (a t : Int32) : Nat := sp_ite (sp_sC a t) 0 kp
theorem sp_t12 {t : Int32} (h1 : ¬ t < 1) (h2 : t ≤ 2) : ∃ k, 1 ≤ k ∧ k ≤ 2 ∧ t = nI k := by
  have h0 : ¬ t < 0 := fun q => h1 (Int32.lt_of_lt_of_le q (by decide))
  obtain ⟨j, hj, rfl⟩ := nI_of h0
  refine ⟨j, ?_, (nI_leI (b := 2) hj (by decide)).mp h2, rfl⟩
  rcases Nat.lt_or_ge j 1 with q | q
  · exact absurd ((nI_ltI (b := 1) hj (by decide)).mpr q) h1
  · exact q
theorem sp_up_ok {nb sk : Nat → Nat} (h : sp_Ok nb sk) {a t : Nat} (h1 : 1 ≤ t) (h2 : t ≤ 2) : sp_Ok nb (sp_up sk a t) := by
  refine ⟨fun k hk => ⟨(h.1 k hk).1, ?_, ?_, (h.1 k hk).2.2.2⟩, h.2⟩
  · unfold sp_up; split
    · exact h1
    · exact (h.1 k hk).2.1
  · unfold sp_up; split
    · exact h2
    · exact (h.1 k hk).2.2.1
theorem sp_skS_p {sk : Nat → Nat} {a t : Nat} (ha : a < 4) (h1 : 1 ≤ t) (h2 : t ≤ 2) : sp_sC (nI a) (nI t) ∧ sp_skS sk (nI a) (nI t) = sp_up sk a t := by
  have hc : sp_sC (nI a) (nI t) := ⟨sp_isP_nI ha, fun q => by have := (nI_ltI (b := 1) (by omega) (by decide)).mp q; omega, (nI_leI (b := 2) (by omega) (by decide)).mpr h2⟩
  refine ⟨hc, ?_⟩
  unfold sp_skS
  rw [sp_ite_p hc, nI_clamp (by omega), nI_clamp (by omega)]
theorem sp_skS_n {sk : Nat → Nat} {a t : Int32} (h : ¬ sp_sC a t) : sp_skS sk a t = sk := sp_ite_n h
theorem sp_kpS_n {kp : Nat} {a t : Int32} (h : ¬ sp_sC a t) : sp_kpS kp a t = kp := sp_ite_n h
theorem sp_kpS_p {kp : Nat} {a t : Int32} (h : sp_sC a t) : sp_kpS kp a t = 0 := sp_ite_p h
theorem sp_skS_ok {nb sk : Nat → Nat} (h : sp_Ok nb sk) (a t : Int32) : sp_Ok nb (sp_skS sk a t) := by
  by_cases q : sp_sC a t
  · obtain ⟨ka, hka, rfl⟩ := sp_pl4 q.1.1 q.1.2
    obtain ⟨kt, h1, h2, rfl⟩ := sp_t12 q.2.1 q.2.2
    rw [(sp_skS_p hka h1 h2).2]; exact sp_up_ok h h1 h2
  · rw [sp_skS_n q]; exact h
/-! drops -/
def sp_dC (a t : Int32) : Prop := sp_isP a ∧ ¬ t < 0 ∧ t ≤ 1000
def sp_dP2 (kp a t : Nat) : Nat → Nat := fun k => sp_dt kp k + if k = a then t else 0
noncomputable def sp_kpD (nb sk : Nat → Nat) (kp : Nat) (a t : Int32) : Nat := sp_ite (sp_dC a t) (sp_sp nb sk (sp_dP2 kp a.toNatClampNeg t.toNatClampNeg)) kp
noncomputable def sp_vD (nb sk : Nat → Nat) (kp : Nat) (a t : Int32) : Int32 := nI (sp_ct (sp_E nb) sk (sp_dP2 kp a.toNatClampNeg t.toNatClampNeg))
theorem sp_dC_p {nb sk : Nat → Nat} {kp a t : Nat} (ha : a < 4) (h2 : t ≤ 1000) : sp_dC (nI a) (nI t) ∧ sp_kpD nb sk kp (nI a) (nI t) = sp_sp nb sk (sp_dP2 kp a t) ∧ sp_vD nb sk kp (nI a) (nI t) = nI (sp_ct (sp_E nb) sk (sp_dP2 kp a t)) := by
  have hc : sp_dC (nI a) (nI t) := ⟨sp_isP_nI ha, nI_pos (by omega), (nI_leI (b := 1000) (by omega) (by decide)).mpr h2⟩
  refine ⟨hc, ?_, ?_⟩
  · unfold sp_kpD
    rw [sp_ite_p hc, nI_clamp (by omega), nI_clamp (by omega)]
  · unfold sp_vD
    rw [nI_clamp (by omega), nI_clamp (by omega)]
theorem sp_kpD_n {nb sk : Nat → Nat} {kp : Nat} {a t : Int32} (h : ¬ sp_dC a t) : sp_kpD nb sk kp a t = kp := sp_ite_n h
noncomputable def sp_kpT (nb sk : Nat → Nat) (kp : Nat) (x : Int32) : Nat := sp_ite (sp_isS nb sk x) x.toNatClampNeg kp
/-- what is kept is a stable state -/
def sp_KP (nb sk : Nat → Nat) (kp : Nat) : Prop := kp < 4096 ∧ sp_SbS nb sk kp
theorem sp_KP0 {nb sk : Nat → Nat} (h : sp_Ok nb sk) : sp_KP nb sk 0 := ⟨by decide, fun k hk => by have := h.dg1 k hk; rcases sp_lt4 hk with rfl | rfl | rfl | rfl <;> exact this⟩
theorem sp_KP_E {nb sk : Nat → Nat} (h : sp_Ok nb sk) {kp : Nat} (hk : sp_KP nb sk kp) (a b t : Int32) : sp_KP (sp_nbE nb a b t) sk (sp_kpE kp a b) := by
  by_cases q : sp_eC a b
  · rw [sp_kpE_p q]; exact sp_KP0 (sp_nbE_ok h a b t)
  · rw [sp_kpE_n q, sp_nbE_n q]; exact hk
theorem sp_KP_S {nb sk : Nat → Nat} (h : sp_Ok nb sk) {kp : Nat} (hk : sp_KP nb sk kp) (a t : Int32) : sp_KP nb (sp_skS sk a t) (sp_kpS kp a t) := by
  by_cases q : sp_sC a t
  · rw [sp_kpS_p q]; exact sp_KP0 (sp_skS_ok h a t)
  · rw [sp_kpS_n q, sp_skS_n q]; exact hk
theorem sp_KP_D {nb sk : Nat → Nat} (h : sp_Ok nb sk) {kp : Nat} (hk : sp_KP nb sk kp) (a t : Int32) : sp_KP nb sk (sp_kpD nb sk kp a t) := by
  by_cases q : sp_dC a t
  · unfold sp_kpD
    rw [sp_ite_p q]
    obtain ⟨l, -, h2⟩ := sp_sp_leg h (sp_dP2 kp a.toNatClampNeg t.toNatClampNeg)
    exact ⟨sp_sp_lt h _, h2⟩
  · rw [sp_kpD_n q]; exact hk
theorem sp_KP_T {nb sk : Nat → Nat} {kp : Nat} (hk : sp_KP nb sk kp) (x : Int32) : sp_KP nb sk (sp_kpT nb sk kp x) := by
  unfold sp_kpT
  by_cases q : sp_isS nb sk x
  · rw [sp_ite_p q]
    obtain ⟨j, hj, rfl, hs⟩ := q
    rw [nI_clamp (by omega)]
    exact ⟨hj, hs⟩
  · rw [sp_ite_n q]; exact hk
end
section
set_option maxRecDepth 100000
theorem sp_dP2_st {kp ka kt n : Nat} : ∀ j, j < n → (if j = ka then nI (sp_dt kp ka + kt) else sp_aI (sp_dt kp) j) = sp_aI (sp_dP2 kp ka kt) j := by
  intro j _
  show (if j = ka then nI (sp_dt kp ka + kt) else nI (sp_dt kp j)) = nI (sp_dt kp j + if j = ka then kt else 0)
  by_cases e : j = ka
  · subst e; rw [if_pos rfl, if_pos rfl]
  · rw [if_neg e, if_neg e, Nat.add_zero]
set_option maxHeartbeats 4000000 in
set_option maxRecDepth 100000 in
/-- learn -/
theorem metX0_learn (l : Launch) (D : va_G) (ad : Nat → Nat) (dc : Nat → ClassId) (nb sk : Nat → Nat) (hok : sp_Ok nb sk) (S G M : Nat → Int32) (kept top known go ne : Int32) (hk : sp_Kn nb sk known go ne) : sp_MV l D (sp_tX dc) yX0_learn cX0_learn 4 ({ frames := 2, cells := 0, slots := 0, locals := 49 } : Room) [.ref (ad 0)] (sp_wX ad dc (sp_aI nb) (S) (sp_aI (sp_dg (sp_E nb) sk)) (G) (M) (kept) (top) (known) (go) (ne)) (S := (Nat → Int32) × (Nat → Int32) × Int32) (fun _ => True) (fun u => sp_wX ad dc (sp_aI nb) (S) (sp_aI (sp_dg (sp_E nb) sk)) (u.1) (u.2.1) (kept) (u.2.2) (nI 1) (nI (sp_cn nb sk)) (nI (sp_ne nb sk))) := by
  refine sp_entV (own := RX0) (by decide) rfl (Nat.le_of_ble_eq_true rfl) ?_
  intro pg ev s mi args below meth cd A Q ls hC hW hret hl
  obtain ⟨hx, hb, -⟩ := id hC
  have hl : lv_has ls 4 [(0, .ref (ad 0))] := hl
  rcases hk with rfl | ⟨rfl, rfl, rfl⟩
  · skip
    refine lv_aload_n hx hb dX0_learn_0 rfl (lv_at hl 0 rfl) ?_
    refine sp_get0 hC hW 6 (by decide) q46 rfl (v := .int (nI 0)) rfl dX0_learn_1 ?_
    refine sp_if_eq (a := 0) (tgt := 8) hx hb dX0_learn_4 (by decide) (by omega) (fun cK => ?_) (fun cK => ?_)
    · skip
      refine lv_aload_n hx hb dX0_learn_8 rfl (lv_at hl 0 rfl) ?_
      refine lv_iconst (v := nI 1) hx hb dX0_learn_9 (by decide) ?_
      refine sp_put0 hC hW 6 (by decide) q46 rfl rfl (ty := .boolean) (v := .int (nI 1)) (by decide +kernel) (by decide) (by decide) (Nat.le_of_ble_eq_true rfl) dX0_learn_10 (fun H locs hW => ?_)
      have hW : sp_Wd D (sp_wX ad dc (sp_aI nb) (S) (sp_aI (sp_dg (sp_E nb) sk)) (G) (M) (kept) (top) (nI 1) (go) (ne)) A s.heap H locs := hW
      refine lv_aload_n hx hb dX0_learn_13 rfl (lv_at hl 0 rfl) ?_
      refine lv_aload_n hx hb dX0_learn_14 rfl (lv_at hl 0 rfl) ?_
      refine sp_callI (n := 0) (rest := [.ref (ad 0)]) hC hW (metX0_determinant l D ad dc nb sk hok _ _ _ _ _ _ _ _) q141 q143 qs9 q30 q144 rfl rfl rfl (by decide +kernel) ⟨by decide, by decide⟩ rfl hl rfl (Nat.le_of_ble_eq_true rfl) ⟨Nat.zero_le _, Nat.zero_le _⟩ dX0_learn_15 (fun r M1 H locs hp hW => ?_)
      have hp : r = nI (sp_cn nb sk) := hp
      subst hp
      have hW : sp_Wd D (sp_wX ad dc (sp_aI nb) (S) (sp_aI (sp_dg (sp_E nb) sk)) (G) (M1) (kept) (top) (nI 1) (go) (ne)) A s.heap H locs := hW
      refine sp_put0 hC hW 7 (by decide) q47 rfl rfl (ty := .int) (v := .int (nI (sp_cn nb sk))) (by decide +kernel) rfl rfl (Nat.le_of_ble_eq_true rfl) dX0_learn_18 (fun H locs hW => ?_)
      have hW : sp_Wd D (sp_wX ad dc (sp_aI nb) (S) (sp_aI (sp_dg (sp_E nb) sk)) (G) (M1) (kept) (top) (nI 1) (nI (sp_cn nb sk)) (ne)) A s.heap H locs := hW
      refine lv_aload_n hx hb dX0_learn_21 rfl (lv_at hl 0 rfl) ?_
      refine lv_iconst (v := nI 2) hx hb dX0_learn_22 (by decide) ?_
      refine sp_callI (n := 1) (rest := []) hC hW (metX0_settledMultiple l D ad dc nb sk hok _ _ _ _ _ _ _ _ 2 (by decide)) q149 q151 qs11 q30 q152 rfl rfl rfl (by decide +kernel) ⟨by decide, by decide⟩ rfl hl rfl (Nat.le_of_ble_eq_true rfl) ⟨Nat.zero_le _, Nat.zero_le _⟩ dX0_learn_23 (fun r u H locs hp hW => ?_)
      have hp : r = nI (sp_sp nb sk (fun k => 2 * sp_fl nb sk k)) := hp
      subst hp
      obtain ⟨G1, t1⟩ := u
      have hW : sp_Wd D (sp_wX ad dc (sp_aI nb) (S) (sp_aI (sp_dg (sp_E nb) sk)) (G1) (M1) (kept) (t1) (nI 1) (nI (sp_cn nb sk)) (ne)) A s.heap H locs := hW
      have hT := sp_sp_lt hok (fun k => 2 * sp_fl nb sk k)
      obtain ⟨_, -, hst⟩ := sp_sp_leg hok (fun k => 2 * sp_fl nb sk k)
      refine lv_istore_n (lv' := [(1, .int (nI (sp_sp nb sk (fun k => 2 * sp_fl nb sk k)))), (0, .ref (ad 0))]) hx hb dX0_learn_26 rfl hl (by decide) rfl (fun ls hl => ?_)
      refine lv_iconst (v := nI 0) hx hb dX0_learn_27 (by decide) ?_
      refine lv_istore_n (lv' := [(2, .int (nI 0)), (1, .int (nI (sp_sp nb sk (fun k => 2 * sp_fl nb sk k)))), (0, .ref (ad 0))]) hx hb dX0_learn_28 rfl hl (by decide) rfl (fun ls hl => ?_)
      have loop : ∀ (n i : Nat) (g1 : Nat → Int32), i + n = 4 → (∀ k, k < i → g1 k = nI (2 * sp_fl nb sk k - sp_dt (sp_sp nb sk (fun k => 2 * sp_fl nb sk k)) k)) → ∀ (H : Heap) (locs : List Loc) (ls : Array Slot), sp_Wd D (sp_wX ad dc (sp_aI nb) (S) (sp_aI (sp_dg (sp_E nb) sk)) (g1) (M1) (kept) (t1) (nI 1) (nI (sp_cn nb sk)) (ne)) A s.heap H locs → lv_has ls 4 [(0, .ref (ad 0)), (1, .int (nI (sp_sp nb sk (fun k => 2 * sp_fl nb sk k)))), (2, .int (nI i))] → W pg l ev ({ frames := 2, cells := 0, slots := 0, locals := 49 } : Room) s mi args below meth cd H locs 0 0 Q (F0 mi 29 ls []) := by
        intro n
        induction n with
        | zero =>
          intro i g1 hi_i hg H locs ls hW hl
          refine lv_iload_n hx hb dX0_learn_29 rfl (lv_at hl 2 rfl) ?_
          refine lv_iconst (v := nI 4) hx hb dX0_learn_30 (by decide) ?_
          refine sp_icmp_ge (a := i) (b := 4) (tgt := 65) hx hb dX0_learn_31 (by decide) (by omega) (by omega) (fun c => ?_) (fun c => ?_)
          · skip
            refine lv_aload_n hx hb dX0_learn_65 rfl (lv_at hl 0 rfl) ?_
            have hW := hW.arr 4 rfl (sp_aI (fun k => 2 * sp_fl nb sk k - sp_dt (sp_sp nb sk (fun k => 2 * sp_fl nb sk k)) k)) (fun j hj => hg j (by omega))
            have hW : sp_Wd D (sp_wX ad dc (sp_aI nb) (S) (sp_aI (sp_dg (sp_E nb) sk)) (sp_aI (fun k => 2 * sp_fl nb sk k - sp_dt (sp_sp nb sk (fun k => 2 * sp_fl nb sk k)) k)) (M1) (kept) (t1) (nI 1) (nI (sp_cn nb sk)) (ne)) A s.heap H locs := hW
            have htt : sp_tot (fun k => 2 * sp_fl nb sk k - sp_dt (sp_sp nb sk (fun k => 2 * sp_fl nb sk k)) k) ≤ 1048576 := by
              have h0 := sp_fl8 hok 0 (by decide)
              have h1 := sp_fl8 hok 1 (by decide)
              have h2 := sp_fl8 hok 2 (by decide)
              have h3 := sp_fl8 hok 3 (by decide)
              simp only [sp_tot]; omega
            refine sp_callV (n := 0) (rest := []) hC hW (metX0_settle l D ad dc nb sk hok (fun k => 2 * sp_fl nb sk k - sp_dt (sp_sp nb sk (fun k => 2 * sp_fl nb sk k)) k) (htt) _ _ _ _ _ _ _) q101 q103 qs4 q30 q104 rfl rfl rfl (by decide +kernel) ⟨by decide, by decide⟩ rfl hl rfl (Nat.le_of_ble_eq_true rfl) ⟨Nat.zero_le _, Nat.zero_le _⟩ dX0_learn_66 (fun u H locs hp hW => ?_)
            have hW : sp_Wd D (sp_wX ad dc (sp_aI nb) (S) (sp_aI (sp_dg (sp_E nb) sk)) (sp_aI (sp_st (sp_E nb) sk (fun k => 2 * sp_fl nb sk k - sp_dt (sp_sp nb sk (fun k => 2 * sp_fl nb sk k)) k))) (M1) (kept) (nI (sp_ct (sp_E nb) sk (fun k => 2 * sp_fl nb sk k - sp_dt (sp_sp nb sk (fun k => 2 * sp_fl nb sk k)) k))) (nI 1) (nI (sp_cn nb sk)) (ne)) A s.heap H locs := hW
            refine lv_aload_n hx hb dX0_learn_69 rfl (lv_at hl 0 rfl) ?_
            refine lv_aload_n hx hb dX0_learn_70 rfl (lv_at hl 0 rfl) ?_
            refine sp_callI (n := 0) (rest := [.ref (ad 0)]) hC hW (metX0_packed l D ad dc _ (sp_st (sp_E nb) sk (fun k => 2 * sp_fl nb sk k - sp_dt (sp_sp nb sk (fun k => 2 * sp_fl nb sk k)) k)) _ _ _ _ _ _ _ _) q105 q107 qs5 q30 q108 rfl rfl rfl (by decide +kernel) ⟨by decide, by decide⟩ rfl hl rfl (Nat.le_of_ble_eq_true rfl) ⟨Nat.zero_le _, Nat.zero_le _⟩ dX0_learn_71 (fun r u H locs hp hW => ?_)
            have hp : r = nI (sp_pk (sp_st (sp_E nb) sk (fun k => 2 * sp_fl nb sk k - sp_dt (sp_sp nb sk (fun k => 2 * sp_fl nb sk k)) k))) := hp
            subst hp
            have hW : sp_Wd D (sp_wX ad dc (sp_aI nb) (S) (sp_aI (sp_dg (sp_E nb) sk)) (sp_aI (sp_st (sp_E nb) sk (fun k => 2 * sp_fl nb sk k - sp_dt (sp_sp nb sk (fun k => 2 * sp_fl nb sk k)) k))) (M1) (kept) (nI (sp_ct (sp_E nb) sk (fun k => 2 * sp_fl nb sk k - sp_dt (sp_sp nb sk (fun k => 2 * sp_fl nb sk k)) k))) (nI 1) (nI (sp_cn nb sk)) (ne)) A s.heap H locs := hW
            refine sp_put0 hC hW 8 (by decide) q48 rfl rfl (ty := .int) (v := .int (nI (sp_pk (sp_st (sp_E nb) sk (fun k => 2 * sp_fl nb sk k - sp_dt (sp_sp nb sk (fun k => 2 * sp_fl nb sk k)) k))))) (by decide +kernel) rfl rfl (Nat.le_of_ble_eq_true rfl) dX0_learn_74 (fun H locs hW => ?_)
            have hW : sp_Wd D (sp_wX ad dc (sp_aI nb) (S) (sp_aI (sp_dg (sp_E nb) sk)) (sp_aI (sp_st (sp_E nb) sk (fun k => 2 * sp_fl nb sk k - sp_dt (sp_sp nb sk (fun k => 2 * sp_fl nb sk k)) k))) (M1) (kept) (nI (sp_ct (sp_E nb) sk (fun k => 2 * sp_fl nb sk k - sp_dt (sp_sp nb sk (fun k => 2 * sp_fl nb sk k)) k))) (nI 1) (nI (sp_cn nb sk)) (nI (sp_pk (sp_st (sp_E nb) sk (fun k => 2 * sp_fl nb sk k - sp_dt (sp_sp nb sk (fun k => 2 * sp_fl nb sk k)) k))))) A s.heap H locs := hW
            exact hret _ _ _ _ ((_, _, _)) dX0_learn_77 (trivial) hW
          · skip
            exfalso; omega
        | succ n ih =>
          intro i g1 hi_i hg H locs ls hW hl
          refine lv_iload_n hx hb dX0_learn_29 rfl (lv_at hl 2 rfl) ?_
          refine lv_iconst (v := nI 4) hx hb dX0_learn_30 (by decide) ?_
          refine sp_icmp_ge (a := i) (b := 4) (tgt := 65) hx hb dX0_learn_31 (by decide) (by omega) (by omega) (fun c => ?_) (fun c => ?_)
          · skip
            exfalso; omega
          · skip
            have hd1 := hok.dg1 i (by omega)
            have hle := sp_dt_fl hok hst i (by omega)
            refine lv_aload_n hx hb dX0_learn_34 rfl (lv_at hl 0 rfl) ?_
            refine lv_iload_n hx hb dX0_learn_35 rfl (lv_at hl 1 rfl) ?_
            refine lv_iload_n hx hb dX0_learn_36 rfl (lv_at hl 2 rfl) ?_
            refine sp_callI (n := 2) (rest := []) hC hW (metX0_digit l D ad dc _ (ad 0) _ _ (sp_sp nb sk (fun k => 2 * sp_fl nb sk k)) (i) (by omega) (by omega)) q97 q99 qs3 q30 q100 rfl rfl rfl (by decide +kernel) ⟨by decide, by decide⟩ rfl hl rfl (Nat.le_of_ble_eq_true rfl) ⟨Nat.zero_le _, Nat.zero_le _⟩ dX0_learn_37 (fun r u H locs hp hW => ?_)
            have hp : r = nI (sp_dt (sp_sp nb sk (fun k => 2 * sp_fl nb sk k)) i) := hp
            subst hp
            have hW : sp_Wd D (sp_wX ad dc (sp_aI nb) (S) (sp_aI (sp_dg (sp_E nb) sk)) (g1) (M1) (kept) (t1) (nI 1) (nI (sp_cn nb sk)) (ne)) A s.heap H locs := hW
            refine lv_istore_n (lv' := [(3, .int (nI (sp_dt (sp_sp nb sk (fun k => 2 * sp_fl nb sk k)) i))), (0, .ref (ad 0)), (1, .int (nI (sp_sp nb sk (fun k => 2 * sp_fl nb sk k)))), (2, .int (nI i))]) hx hb dX0_learn_40 rfl hl (by decide) rfl (fun ls hl => ?_)
            refine lv_aload_n hx hb dX0_learn_41 rfl (lv_at hl 1 rfl) ?_
            refine sp_get0 hC hW 3 (by decide) q43 rfl (v := .ref (ad 4)) rfl dX0_learn_42 ?_
            refine lv_iload_n hx hb dX0_learn_45 rfl (lv_at hl 3 rfl) ?_
            refine lv_iconst (v := nI 2) hx hb dX0_learn_46 (by decide) ?_
            refine lv_aload_n hx hb dX0_learn_47 rfl (lv_at hl 1 rfl) ?_
            refine sp_get0 hC hW 2 (by decide) q42 rfl (v := .ref (ad 3)) rfl dX0_learn_48 ?_
            refine lv_iload_n hx hb dX0_learn_51 rfl (lv_at hl 3 rfl) ?_
            refine sp_bald hC hW 3 2 rfl rfl (k := i) (v := nI (sp_dg (sp_E nb) sk i)) (by omega) (by decide) rfl dX0_learn_52 ?_
            refine lv_iconst (v := nI 1) hx hb dX0_learn_53 (by decide) ?_
            refine lv_isub hx hb dX0_learn_54 ?_
            refine sp_top (y := nI (sp_fl nb sk i)) (pk_sub hd1) ?_
            refine lv_imul hx hb dX0_learn_55 ?_
            refine sp_top (y := nI (2 * (sp_fl nb sk i))) (pk_mul _ _) ?_
            refine lv_iload_n hx hb dX0_learn_56 rfl (lv_at hl 0 rfl) ?_
            refine lv_isub hx hb dX0_learn_57 ?_
            refine sp_top (y := nI (2 * sp_fl nb sk i - sp_dt (sp_sp nb sk (fun k => 2 * sp_fl nb sk k)) i)) (pk_sub (by omega)) ?_
            refine sp_iast hC hW 4 3 rfl rfl (k := i) (x := nI (2 * sp_fl nb sk i - sp_dt (sp_sp nb sk (fun k => 2 * sp_fl nb sk k)) i)) (by omega) (by decide) (fun j => if j = i then nI (2 * sp_fl nb sk i - sp_dt (sp_sp nb sk (fun k => 2 * sp_fl nb sk k)) i) else g1 j) (fun _ _ => rfl) dX0_learn_58 (fun H locs hW => ?_)
            have hW : sp_Wd D (sp_wX ad dc (sp_aI nb) (S) (sp_aI (sp_dg (sp_E nb) sk)) (fun j => if j = i then nI (2 * sp_fl nb sk i - sp_dt (sp_sp nb sk (fun k => 2 * sp_fl nb sk k)) i) else g1 j) (M1) (kept) (t1) (nI 1) (nI (sp_cn nb sk)) (ne)) A s.heap H locs := hW
            refine lv_iinc (v := nI (i + 1)) (lv' := [(2, .int (nI (i + 1))), (3, .int (nI (sp_dt (sp_sp nb sk (fun k => 2 * sp_fl nb sk k)) i))), (0, .ref (ad 0)), (1, .int (nI (sp_sp nb sk (fun k => 2 * sp_fl nb sk k))))]) hx hb dX0_learn_59 hl (k := 3) rfl (nI_1 _) (by decide) rfl (fun ls hl => ?_)
            refine lv_goto (tgt := 29) hx hb dX0_learn_62 (by decide) ?_
            exact ih (i + 1) _ (by omega) (lt_s (fun k hk => by show (if k = i then _ else g1 k) = _; rw [if_neg (by omega)]; exact hg k hk) (by show (if i = i then _ else _) = _; rw [if_pos rfl])) _ _ _ hW (lv_sub hl [2, 3, 0] rfl)
      exact loop 4 0 G1 (by omega) lt_0 _ _ _ hW (lv_sub hl [2, 1, 0] rfl)
    · skip
      exfalso; omega
  · skip
    refine lv_aload_n hx hb dX0_learn_0 rfl (lv_at hl 0 rfl) ?_
    refine sp_get0 hC hW 6 (by decide) q46 rfl (v := .int (nI 1)) rfl dX0_learn_1 ?_
    refine sp_if_eq (a := 1) (tgt := 8) hx hb dX0_learn_4 (by decide) (by omega) (fun cK => ?_) (fun cK => ?_)
    · skip
      exfalso; omega
    · skip
      exact hret _ _ _ _ ((_, _, _)) dX0_learn_7 (trivial) hW
set_option maxHeartbeats 4000000 in
set_option maxRecDepth 100000 in
/-- recurrent -/
theorem metX0_recurrent (l : Launch) (D : va_G) (ad : Nat → Nat) (dc : Nat → ClassId) (nb sk : Nat → Nat) (hok : sp_Ok nb sk) (S G M : Nat → Int32) (kept top known go ne : Int32) (x : Int32) : sp_MI l D (sp_tX dc) yX0_recurrent cX0_recurrent 2 .boolean ({ frames := 2, cells := 0, slots := 0, locals := 49 } : Room) [.ref (ad 0), .int x] (sp_wX ad dc (sp_aI nb) (S) (sp_aI (sp_dg (sp_E nb) sk)) (G) (M) (kept) (top) (known) (go) (ne)) (S := Unit) (fun r _ => sp_QB (sp_isR nb sk x) r) (fun _ => sp_wX ad dc (sp_aI nb) (S) (sp_aI (sp_dg (sp_E nb) sk)) (G) (M) (kept) (top) (known) (go) (ne)) := by
  refine sp_entI (own := RX0) (by decide) rfl (Nat.le_of_ble_eq_true rfl) ?_
  intro pg ev s mi args below meth cd A Q ls hC hW hret hl
  obtain ⟨hx, hb, -⟩ := id hC
  have hl : lv_has ls 2 [(0, .ref (ad 0)), (1, .int x)] := hl
  refine lv_aload_n hx hb dX0_recurrent_0 rfl (lv_at hl 0 rfl) ?_
  refine lv_iload_n hx hb dX0_recurrent_1 rfl (lv_at hl 1 rfl) ?_
  refine sp_callI (n := 1) (rest := []) hC hW (metX0_isStable l D ad dc nb sk hok _ _ _ _ _ _ _ _ _ (x)) q117 q119 qs6 q30 q120 rfl rfl rfl (by decide +kernel) ⟨by decide, by decide⟩ rfl hl rfl (Nat.le_of_ble_eq_true rfl) ⟨Nat.zero_le _, Nat.zero_le _⟩ dX0_recurrent_2 (fun r u H locs hp hW => ?_)
  have hW : sp_Wd D (sp_wX ad dc (sp_aI nb) (S) (sp_aI (sp_dg (sp_E nb) sk)) (G) (M) (kept) (top) (known) (go) (ne)) A s.heap H locs := hW
  by_cases hs : sp_isS nb sk x
  · skip
    have hp1 : r = nI 1 := hp.1 hs
    subst hp1
    obtain ⟨j, hj, rfl, hsb⟩ := hs
    refine sp_if_eq (a := 1) (tgt := 20) hx hb dX0_recurrent_5 (by decide) (by omega) (fun cK => ?_) (fun cK => ?_)
    · skip
      exfalso; omega
    · skip
      refine lv_aload_n hx hb dX0_recurrent_8 rfl (lv_at hl 0 rfl) ?_
      refine lv_iload_n hx hb dX0_recurrent_9 rfl (lv_at hl 1 rfl) ?_
      refine sp_callI (n := 1) (rest := []) hC hW (metX0_burns l D ad dc nb (fun a ha => (hok.1 a ha).1) _ _ _ _ _ _ _ _ _ j hj) q129 q131 qs7 q30 q132 rfl rfl rfl (by decide +kernel) ⟨by decide, by decide⟩ rfl hl rfl (Nat.le_of_ble_eq_true rfl) ⟨Nat.zero_le _, Nat.zero_le _⟩ dX0_recurrent_10 (fun r u H locs hp hW => ?_)
      have hW : sp_Wd D (sp_wX ad dc (sp_aI nb) (S) (sp_aI (sp_dg (sp_E nb) sk)) (G) (M) (kept) (top) (known) (go) (ne)) A s.heap H locs := hW
      by_cases hbn : sp_bn nb (sp_dt j) = 15
      · skip
        have hp1 : r = nI 1 := hp.1 hbn
        subst hp1
        refine sp_if_eq (a := 1) (tgt := 20) hx hb dX0_recurrent_13 (by decide) (by omega) (fun cK => ?_) (fun cK => ?_)
        · skip
          exfalso; omega
        · skip
          refine lv_iconst (v := nI 1) hx hb dX0_recurrent_16 (by decide) ?_
          refine lv_goto (tgt := 21) hx hb dX0_recurrent_17 (by decide) ?_
          exact hret _ _ _ _ _ (()) dX0_recurrent_21 (rfl) (sp_QB.p ((sp_isR_nI hj).mpr ⟨hsb, sp_bn_to (fun a ha => (hok.1 a ha).1) hbn⟩)) hW
      · skip
        have hp1 : r = nI 0 := hp.2 hbn
        subst hp1
        refine sp_if_eq (a := 0) (tgt := 20) hx hb dX0_recurrent_13 (by decide) (by omega) (fun cK => ?_) (fun cK => ?_)
        · skip
          refine lv_iconst (v := nI 0) hx hb dX0_recurrent_20 (by decide) ?_
          exact hret _ _ _ _ _ (()) dX0_recurrent_21 (rfl) (sp_QB.n (fun q => hbn (sp_bn_of (fun a ha => (hok.1 a ha).1) ((sp_isR_nI hj).mp q).2))) hW
        · skip
          exfalso; omega
  · skip
    have hp1 : r = nI 0 := hp.2 hs
    subst hp1
    refine sp_if_eq (a := 0) (tgt := 20) hx hb dX0_recurrent_5 (by decide) (by omega) (fun cK => ?_) (fun cK => ?_)
    · skip
      refine lv_iconst (v := nI 0) hx hb dX0_recurrent_20 (by decide) ?_
      exact hret _ _ _ _ _ (()) dX0_recurrent_21 (rfl) (sp_QB.n (fun q => by obtain ⟨j, hj, e, hr⟩ := q; exact hs ⟨j, hj, e, hr.1⟩)) hW
    · skip
      exfalso; omega
set_option maxHeartbeats 4000000 in
set_option maxRecDepth 100000 in
/-- edge -/
theorem metX0_edge (l : Launch) (D : va_G) (ad : Nat → Nat) (dc : Nat → ClassId) (nb sk : Nat → Nat) (hok : sp_Ok nb sk) (kp : Nat) (hkp : sp_KP nb sk kp) (G M : Nat → Int32) (top known go ne : Int32) (hk : sp_Kn nb sk known go ne) (a b t : Int32) : sp_MI l D (sp_tX dc) yX0_edge cX0_edge 4 .boolean ({ frames := 1, cells := 0, slots := 0, locals := 23 } : Room) [.ref (ad 0), .int a, .int b, .int t] (sp_wX ad dc (sp_aI nb) (sp_aI sk) (sp_aI (sp_dg (sp_E nb) sk)) (G) (M) (nI kp) (top) (known) (go) (ne)) (S := (Nat → Int32) × (Nat → Int32) × Int32 × Int32 × Int32 × Int32) (fun r u => sp_QB (sp_eC a b) r ∧ sp_Kn (sp_nbE nb a b t) sk u.2.2.2.1 u.2.2.2.2.1 u.2.2.2.2.2) (fun u => sp_wX ad dc (sp_aI (sp_nbE nb a b t)) (sp_aI sk) (sp_aI (sp_dg (sp_E (sp_nbE nb a b t)) sk)) (u.1) (u.2.1) (nI (sp_kpE kp a b)) (u.2.2.1) (u.2.2.2.1) (u.2.2.2.2.1) (u.2.2.2.2.2)) := by
  refine sp_entI (own := RX0) (by decide) rfl (Nat.le_of_ble_eq_true rfl) ?_
  intro pg ev s mi args below meth cd A Q ls hC hW hret hl
  obtain ⟨hx, hb, -⟩ := id hC
  have hl : lv_has ls 4 [(0, .ref (ad 0)), (1, .int a), (2, .int b), (3, .int t)] := hl
  refine lv_aload_n hx hb dX0_edge_0 rfl (lv_at hl 0 rfl) ?_
  refine lv_iload_n hx hb dX0_edge_1 rfl (lv_at hl 1 rfl) ?_
  refine sp_callI (n := 1) (rest := []) hC hW (metX0_isPlace l D ad dc _ (ad 0) _ _ (a)) q77 q79 qs0 q30 q80 rfl rfl rfl (by decide +kernel) ⟨by decide, by decide⟩ rfl hl rfl (Nat.le_of_ble_eq_true rfl) ⟨Nat.zero_le _, Nat.zero_le _⟩ dX0_edge_2 (fun r u H locs hp hW => ?_)
  have hW : sp_Wd D (sp_wX ad dc (sp_aI nb) (sp_aI sk) (sp_aI (sp_dg (sp_E nb) sk)) (G) (M) (nI kp) (top) (known) (go) (ne)) A s.heap H locs := hW
  by_cases hPa : sp_isP a
  · skip
    have hp1 : r = nI 1 := hp.1 hPa
    subst hp1
    refine sp_if_eq (a := 1) (tgt := 21) hx hb dX0_edge_5 (by decide) (by omega) (fun cK => ?_) (fun cK => ?_)
    · skip
      exfalso; omega
    · skip
      obtain ⟨ka, hka, rfl⟩ := sp_pl4 hPa.1 hPa.2
      refine lv_aload_n hx hb dX0_edge_8 rfl (lv_at hl 0 rfl) ?_
      refine lv_iload_n hx hb dX0_edge_9 rfl (lv_at hl 2 rfl) ?_
      refine sp_callI (n := 1) (rest := []) hC hW (metX0_isPlace l D ad dc _ (ad 0) _ _ (b)) q77 q79 qs0 q30 q80 rfl rfl rfl (by decide +kernel) ⟨by decide, by decide⟩ rfl hl rfl (Nat.le_of_ble_eq_true rfl) ⟨Nat.zero_le _, Nat.zero_le _⟩ dX0_edge_10 (fun r u H locs hp hW => ?_)
      have hW : sp_Wd D (sp_wX ad dc (sp_aI nb) (sp_aI sk) (sp_aI (sp_dg (sp_E nb) sk)) (G) (M) (nI kp) (top) (known) (go) (ne)) A s.heap H locs := hW
      by_cases hPb : sp_isP b
      · skip
        have hp1 : r = nI 1 := hp.1 hPb
        subst hp1
        refine sp_if_eq (a := 1) (tgt := 21) hx hb dX0_edge_13 (by decide) (by omega) (fun cK => ?_) (fun cK => ?_)
        · skip
          exfalso; omega
        · skip
          obtain ⟨kb, hkb, rfl⟩ := sp_pl4 hPb.1 hPb.2
          refine lv_iload_n hx hb dX0_edge_16 rfl (lv_at hl 1 rfl) ?_
          refine lv_iload_n hx hb dX0_edge_17 rfl (lv_at hl 2 rfl) ?_
          refine sp_icmp_ne (a := ka) (b := kb) (tgt := 23) hx hb dX0_edge_18 (by decide) (by omega) (by omega) (fun cab => ?_) (fun cab => ?_)
          · skip
            have hna := (hok.1 ka hka).1
            have hnb2 := (hok.1 kb hkb).1
            refine lv_iload_n hx hb dX0_edge_23 rfl (lv_at hl 3 rfl) ?_
            refine lv_if_eq (tgt := 56) hx hb dX0_edge_24 (by decide) (fun ct => ?_) (fun ct => ?_)
            · skip
              refine lv_aload_n hx hb dX0_edge_56 rfl (lv_at hl 0 rfl) ?_
              refine sp_get0 hC hW 0 (by decide) q40 rfl (v := .ref (ad 1)) rfl dX0_edge_57 ?_
              refine lv_iload_n hx hb dX0_edge_60 rfl (lv_at hl 1 rfl) ?_
              refine lv_dup2_11 hx hb dX0_edge_61 rfl rfl ?_
              refine sp_bald hC hW 1 0 rfl rfl (k := ka) (v := nI (nb ka)) (by omega) (by decide) rfl dX0_edge_62 ?_
              refine lv_iconst (v := nI 1) hx hb dX0_edge_63 (by decide) ?_
              refine lv_iload_n hx hb dX0_edge_64 rfl (lv_at hl 2 rfl) ?_
              refine lv_ishl hx hb dX0_edge_65 ?_
              refine sp_top (y := nI (2 ^ kb)) (sp_shl1 _ hkb) ?_
              refine lv_iconst (v := (-1)) hx hb dX0_edge_66 (by decide) ?_
              refine lv_ixor hx hb dX0_edge_67 ?_
              refine lv_iand hx hb dX0_edge_68 ?_
              refine sp_top (y := nI (nb ka &&& (15 ^^^ 2 ^ kb))) (sp_anb _ hna _ hkb) ?_
              have hv1 := (sp_an_b _ hna kb hkb).1
              refine lv_i2b (v := nI (nb ka &&& (15 ^^^ 2 ^ kb))) hx hb dX0_edge_69 (sp_i2b _ (by omega)) ?_
              refine sp_bast hC hW 1 0 rfl rfl (k := ka) (x := nI (nb ka &&& (15 ^^^ 2 ^ kb))) (by omega) (by decide) (sp_nrb _ (by omega)) (sp_aI (sp_up (nb) (ka) (nb ka &&& (15 ^^^ 2 ^ kb)))) (sp_aup) dX0_edge_70 (fun H locs hW => ?_)
              have hW : sp_Wd D (sp_wX ad dc (sp_aI (sp_up (nb) (ka) (nb ka &&& (15 ^^^ 2 ^ kb)))) (sp_aI sk) (sp_aI (sp_dg (sp_E nb) sk)) (G) (M) (nI kp) (top) (known) (go) (ne)) A s.heap H locs := hW
              refine lv_aload_n hx hb dX0_edge_71 rfl (lv_at hl 0 rfl) ?_
              refine sp_get0 hC hW 0 (by decide) q40 rfl (v := .ref (ad 1)) rfl dX0_edge_72 ?_
              refine lv_iload_n hx hb dX0_edge_75 rfl (lv_at hl 2 rfl) ?_
              refine lv_dup2_11 hx hb dX0_edge_76 rfl rfl ?_
              refine sp_bald hC hW 1 0 rfl rfl (k := kb) (v := nI ((sp_up (nb) (ka) (nb ka &&& (15 ^^^ 2 ^ kb))) (kb))) (by omega) (by decide) rfl dX0_edge_77 ?_
              refine sp_top (y := nI (nb kb)) (congrArg nI (if_neg (Ne.symm cab))) ?_
              refine lv_iconst (v := nI 1) hx hb dX0_edge_78 (by decide) ?_
              refine lv_iload_n hx hb dX0_edge_79 rfl (lv_at hl 1 rfl) ?_
              refine lv_ishl hx hb dX0_edge_80 ?_
              refine sp_top (y := nI (2 ^ ka)) (sp_shl1 _ hka) ?_
              refine lv_iconst (v := (-1)) hx hb dX0_edge_81 (by decide) ?_
              refine lv_ixor hx hb dX0_edge_82 ?_
              refine lv_iand hx hb dX0_edge_83 ?_
              refine sp_top (y := nI (nb kb &&& (15 ^^^ 2 ^ ka))) (sp_anb _ hnb2 _ hka) ?_
              have hv2 := (sp_an_b _ hnb2 ka hka).1
              refine lv_i2b (v := nI (nb kb &&& (15 ^^^ 2 ^ ka))) hx hb dX0_edge_84 (sp_i2b _ (by omega)) ?_
              refine sp_bast hC hW 1 0 rfl rfl (k := kb) (x := nI (nb kb &&& (15 ^^^ 2 ^ ka))) (by omega) (by decide) (sp_nrb _ (by omega)) (sp_aI (sp_up (sp_up (nb) (ka) (nb ka &&& (15 ^^^ 2 ^ kb))) (kb) (nb kb &&& (15 ^^^ 2 ^ ka)))) (sp_aup) dX0_edge_85 (fun H locs hW => ?_)
              have hW : sp_Wd D (sp_wX ad dc (sp_aI (sp_up (sp_up (nb) (ka) (nb ka &&& (15 ^^^ 2 ^ kb))) (kb) (nb kb &&& (15 ^^^ 2 ^ ka)))) (sp_aI sk) (sp_aI (sp_dg (sp_E nb) sk)) (G) (M) (nI kp) (top) (known) (go) (ne)) A s.heap H locs := hW
              refine lv_aload_n hx hb dX0_edge_86 rfl (lv_at hl 0 rfl) ?_
              have hok2 := sp_e0_ok hok hka hkb cab
              have hW : sp_Wd D (sp_wX ad dc (sp_aI (sp_e0 nb ka kb)) (sp_aI sk) (sp_aI (sp_dg (sp_E nb) sk)) (G) (M) (nI kp) (top) (known) (go) (ne)) A s.heap H locs := hW
              refine sp_callV (n := 0) (rest := []) hC hW (metX0_changeGraph l D ad dc (sp_e0 nb ka kb) sk hok2 _ _ _ _ _ _ _ _) q81 q83 qs1 q30 q84 rfl rfl rfl (by decide +kernel) ⟨by decide, by decide⟩ rfl hl rfl (Nat.le_of_ble_eq_true rfl) ⟨Nat.zero_le _, Nat.zero_le _⟩ dX0_edge_87 (fun u H locs hp hW => ?_)
              have hW : sp_Wd D (sp_wX ad dc (sp_aI (sp_e0 nb ka kb)) (sp_aI sk) (sp_aI (sp_dg (sp_E (sp_e0 nb ka kb)) sk)) (G) (M) (nI 0) (top) (nI 0) (go) (ne)) A s.heap H locs := hW
              refine lv_iconst (v := nI 1) hx hb dX0_edge_90 (by decide) ?_
              refine hret _ _ _ _ _ ((G, M, top, nI 0, go, ne)) dX0_edge_91 rfl ⟨sp_QB.p (sp_eC_nI hka hkb cab), Or.inl rfl⟩ ?_
              rw [sp_nbE_0 hka hkb cab ct, sp_kpE_p (sp_eC_nI hka hkb cab)]
              exact hW
            · skip
              refine lv_aload_n hx hb dX0_edge_27 rfl (lv_at hl 0 rfl) ?_
              refine sp_get0 hC hW 0 (by decide) q40 rfl (v := .ref (ad 1)) rfl dX0_edge_28 ?_
              refine lv_iload_n hx hb dX0_edge_31 rfl (lv_at hl 1 rfl) ?_
              refine lv_dup2_11 hx hb dX0_edge_32 rfl rfl ?_
              refine sp_bald hC hW 1 0 rfl rfl (k := ka) (v := nI (nb ka)) (by omega) (by decide) rfl dX0_edge_33 ?_
              refine lv_iconst (v := nI 1) hx hb dX0_edge_34 (by decide) ?_
              refine lv_iload_n hx hb dX0_edge_35 rfl (lv_at hl 2 rfl) ?_
              refine lv_ishl hx hb dX0_edge_36 ?_
              refine sp_top (y := nI (2 ^ kb)) (sp_shl1 _ hkb) ?_
              refine lv_ior hx hb dX0_edge_37 ?_
              refine sp_top (y := nI (nb ka ||| 2 ^ kb)) (sp_orb _ hna _ hkb) ?_
              have hv1 := (sp_or_b _ hna kb hkb).1
              refine lv_i2b (v := nI (nb ka ||| 2 ^ kb)) hx hb dX0_edge_38 (sp_i2b _ (by omega)) ?_
              refine sp_bast hC hW 1 0 rfl rfl (k := ka) (x := nI (nb ka ||| 2 ^ kb)) (by omega) (by decide) (sp_nrb _ (by omega)) (sp_aI (sp_up (nb) (ka) (nb ka ||| 2 ^ kb))) (sp_aup) dX0_edge_39 (fun H locs hW => ?_)
              have hW : sp_Wd D (sp_wX ad dc (sp_aI (sp_up (nb) (ka) (nb ka ||| 2 ^ kb))) (sp_aI sk) (sp_aI (sp_dg (sp_E nb) sk)) (G) (M) (nI kp) (top) (known) (go) (ne)) A s.heap H locs := hW
              refine lv_aload_n hx hb dX0_edge_40 rfl (lv_at hl 0 rfl) ?_
              refine sp_get0 hC hW 0 (by decide) q40 rfl (v := .ref (ad 1)) rfl dX0_edge_41 ?_
              refine lv_iload_n hx hb dX0_edge_44 rfl (lv_at hl 2 rfl) ?_
              refine lv_dup2_11 hx hb dX0_edge_45 rfl rfl ?_
              refine sp_bald hC hW 1 0 rfl rfl (k := kb) (v := nI (sp_up (nb) (ka) (nb ka ||| 2 ^ kb) kb)) (by omega) (by decide) rfl dX0_edge_46 ?_
              refine sp_top (y := nI (nb kb)) (congrArg nI (if_neg (Ne.symm cab))) ?_
              refine lv_iconst (v := nI 1) hx hb dX0_edge_47 (by decide) ?_
              refine lv_iload_n hx hb dX0_edge_48 rfl (lv_at hl 1 rfl) ?_
              refine lv_ishl hx hb dX0_edge_49 ?_
              refine sp_top (y := nI (2 ^ ka)) (sp_shl1 _ hka) ?_
              refine lv_ior hx hb dX0_edge_50 ?_
              refine sp_top (y := nI (nb kb ||| 2 ^ ka)) (sp_orb _ hnb2 _ hka) ?_
              have hv2 := (sp_or_b _ hnb2 ka hka).1
              refine lv_i2b (v := nI (nb kb ||| 2 ^ ka)) hx hb dX0_edge_51 (sp_i2b _ (by omega)) ?_
              refine sp_bast hC hW 1 0 rfl rfl (k := kb) (x := nI (nb kb ||| 2 ^ ka)) (by omega) (by decide) (sp_nrb _ (by omega)) (sp_aI (sp_up (sp_up (nb) (ka) (nb ka ||| 2 ^ kb)) (kb) (nb kb ||| 2 ^ ka))) (sp_aup) dX0_edge_52 (fun H locs hW => ?_)
              have hW : sp_Wd D (sp_wX ad dc (sp_aI (sp_up (sp_up (nb) (ka) (nb ka ||| 2 ^ kb)) (kb) (nb kb ||| 2 ^ ka))) (sp_aI sk) (sp_aI (sp_dg (sp_E nb) sk)) (G) (M) (nI kp) (top) (known) (go) (ne)) A s.heap H locs := hW
              refine lv_goto (tgt := 86) hx hb dX0_edge_53 (by decide) ?_
              refine lv_aload_n hx hb dX0_edge_86 rfl (lv_at hl 0 rfl) ?_
              have hok2 := sp_e1_ok hok hka hkb cab
              have hW : sp_Wd D (sp_wX ad dc (sp_aI (sp_e1 nb ka kb)) (sp_aI sk) (sp_aI (sp_dg (sp_E nb) sk)) (G) (M) (nI kp) (top) (known) (go) (ne)) A s.heap H locs := hW
              refine sp_callV (n := 0) (rest := []) hC hW (metX0_changeGraph l D ad dc (sp_e1 nb ka kb) sk hok2 _ _ _ _ _ _ _ _) q81 q83 qs1 q30 q84 rfl rfl rfl (by decide +kernel) ⟨by decide, by decide⟩ rfl hl rfl (Nat.le_of_ble_eq_true rfl) ⟨Nat.zero_le _, Nat.zero_le _⟩ dX0_edge_87 (fun u H locs hp hW => ?_)
              have hW : sp_Wd D (sp_wX ad dc (sp_aI (sp_e1 nb ka kb)) (sp_aI sk) (sp_aI (sp_dg (sp_E (sp_e1 nb ka kb)) sk)) (G) (M) (nI 0) (top) (nI 0) (go) (ne)) A s.heap H locs := hW
              refine lv_iconst (v := nI 1) hx hb dX0_edge_90 (by decide) ?_
              refine hret _ _ _ _ _ ((G, M, top, nI 0, go, ne)) dX0_edge_91 rfl ⟨sp_QB.p (sp_eC_nI hka hkb cab), Or.inl rfl⟩ ?_
              rw [sp_nbE_1 hka hkb cab ct, sp_kpE_p (sp_eC_nI hka hkb cab)]
              exact hW
          · skip
            refine lv_iconst (v := nI 0) hx hb dX0_edge_21 (by decide) ?_
            have hn : ¬ sp_eC (nI ka) (nI kb) := fun q => q.2.2 (congrArg nI cab)
            have hk2 : sp_Kn (sp_nbE nb (nI ka) (nI kb) t) sk known go ne := by rw [sp_nbE_n hn]; exact hk
            have hWn := hW
            refine hret _ _ _ _ _ ((G, M, top, known, go, ne)) dX0_edge_22 rfl ⟨sp_QB.n hn, hk2⟩ ?_
            rw [sp_nbE_n hn, sp_kpE_n hn]
            exact hW
      · skip
        have hp1 : r = nI 0 := hp.2 hPb
        subst hp1
        refine sp_if_eq (a := 0) (tgt := 21) hx hb dX0_edge_13 (by decide) (by omega) (fun cK => ?_) (fun cK => ?_)
        · skip
          refine lv_iconst (v := nI 0) hx hb dX0_edge_21 (by decide) ?_
          have hn : ¬ sp_eC (nI ka) (b) := fun q => hPb q.2.1
          have hk2 : sp_Kn (sp_nbE nb (nI ka) (b) t) sk known go ne := by rw [sp_nbE_n hn]; exact hk
          have hWn := hW
          refine hret _ _ _ _ _ ((G, M, top, known, go, ne)) dX0_edge_22 rfl ⟨sp_QB.n hn, hk2⟩ ?_
          rw [sp_nbE_n hn, sp_kpE_n hn]
          exact hW
        · skip
          exfalso; omega
  · skip
    have hp1 : r = nI 0 := hp.2 hPa
    subst hp1
    refine sp_if_eq (a := 0) (tgt := 21) hx hb dX0_edge_5 (by decide) (by omega) (fun cK => ?_) (fun cK => ?_)
    · skip
      refine lv_iconst (v := nI 0) hx hb dX0_edge_21 (by decide) ?_
      have hn : ¬ sp_eC (a) (b) := fun q => hPa q.1
      have hk2 : sp_Kn (sp_nbE nb (a) (b) t) sk known go ne := by rw [sp_nbE_n hn]; exact hk
      have hWn := hW
      refine hret _ _ _ _ _ ((G, M, top, known, go, ne)) dX0_edge_22 rfl ⟨sp_QB.n hn, hk2⟩ ?_
      rw [sp_nbE_n hn, sp_kpE_n hn]
      exact hW
    · skip
      exfalso; omega
set_option maxHeartbeats 4000000 in
set_option maxRecDepth 100000 in
/-- sink -/
theorem metX0_sink (l : Launch) (D : va_G) (ad : Nat → Nat) (dc : Nat → ClassId) (nb sk : Nat → Nat) (hok : sp_Ok nb sk) (kp : Nat) (hkp : sp_KP nb sk kp) (G M : Nat → Int32) (top known go ne : Int32) (hk : sp_Kn nb sk known go ne) (a t : Int32) : sp_MI l D (sp_tX dc) yX0_sink cX0_sink 3 .boolean ({ frames := 1, cells := 0, slots := 0, locals := 23 } : Room) [.ref (ad 0), .int a, .int t] (sp_wX ad dc (sp_aI nb) (sp_aI sk) (sp_aI (sp_dg (sp_E nb) sk)) (G) (M) (nI kp) (top) (known) (go) (ne)) (S := (Nat → Int32) × (Nat → Int32) × Int32 × Int32 × Int32 × Int32) (fun r u => sp_QB (sp_sC a t) r ∧ sp_Kn nb (sp_skS sk a t) u.2.2.2.1 u.2.2.2.2.1 u.2.2.2.2.2) (fun u => sp_wX ad dc (sp_aI nb) (sp_aI (sp_skS sk a t)) (sp_aI (sp_dg (sp_E nb) (sp_skS sk a t))) (u.1) (u.2.1) (nI (sp_kpS kp a t)) (u.2.2.1) (u.2.2.2.1) (u.2.2.2.2.1) (u.2.2.2.2.2)) := by
  refine sp_entI (own := RX0) (by decide) rfl (Nat.le_of_ble_eq_true rfl) ?_
  intro pg ev s mi args below meth cd A Q ls hC hW hret hl
  obtain ⟨hx, hb, -⟩ := id hC
  have hl : lv_has ls 3 [(0, .ref (ad 0)), (1, .int a), (2, .int t)] := hl
  refine lv_aload_n hx hb dX0_sink_0 rfl (lv_at hl 0 rfl) ?_
  refine lv_iload_n hx hb dX0_sink_1 rfl (lv_at hl 1 rfl) ?_
  refine sp_callI (n := 1) (rest := []) hC hW (metX0_isPlace l D ad dc _ (ad 0) _ _ (a)) q77 q79 qs0 q30 q80 rfl rfl rfl (by decide +kernel) ⟨by decide, by decide⟩ rfl hl rfl (Nat.le_of_ble_eq_true rfl) ⟨Nat.zero_le _, Nat.zero_le _⟩ dX0_sink_2 (fun r u H locs hp hW => ?_)
  have hW : sp_Wd D (sp_wX ad dc (sp_aI nb) (sp_aI sk) (sp_aI (sp_dg (sp_E nb) sk)) (G) (M) (nI kp) (top) (known) (go) (ne)) A s.heap H locs := hW
  by_cases hPa : sp_isP a
  · skip
    have hp1 : r = nI 1 := hp.1 hPa
    subst hp1
    refine sp_if_eq (a := 1) (tgt := 18) hx hb dX0_sink_5 (by decide) (by omega) (fun cK => ?_) (fun cK => ?_)
    · skip
      exfalso; omega
    · skip
      obtain ⟨ka, hka, rfl⟩ := sp_pl4 hPa.1 hPa.2
      refine lv_iload_n hx hb dX0_sink_8 rfl (lv_at hl 2 rfl) ?_
      refine lv_iconst (v := nI 1) hx hb dX0_sink_9 (by decide) ?_
      refine lv_icmp_lt (tgt := 18) hx hb dX0_sink_10 (by decide) (fun c1 => ?_) (fun c1 => ?_)
      · skip
        refine lv_iconst (v := nI 0) hx hb dX0_sink_18 (by decide) ?_
        have hn : ¬ sp_sC (nI ka) (t) := fun q => q.2.1 c1
        have hk2 : sp_Kn nb (sp_skS sk (nI ka) (t)) known go ne := by rw [sp_skS_n hn]; exact hk
        refine hret _ _ _ _ _ ((G, M, top, known, go, ne)) dX0_sink_19 rfl ⟨sp_QB.n hn, hk2⟩ ?_
        rw [sp_skS_n hn, sp_kpS_n hn]
        exact hW
      · skip
        refine lv_iload_n hx hb dX0_sink_13 rfl (lv_at hl 2 rfl) ?_
        refine lv_iconst (v := nI 2) hx hb dX0_sink_14 (by decide) ?_
        refine lv_icmp_le (tgt := 20) hx hb dX0_sink_15 (by decide) (fun c2 => ?_) (fun c2 => ?_)
        · skip
          obtain ⟨kt, hk1, hk2, rfl⟩ := sp_t12 c1 c2
          refine lv_aload_n hx hb dX0_sink_20 rfl (lv_at hl 0 rfl) ?_
          refine sp_get0 hC hW 1 (by decide) q41 rfl (v := .ref (ad 2)) rfl dX0_sink_21 ?_
          refine lv_iload_n hx hb dX0_sink_24 rfl (lv_at hl 1 rfl) ?_
          refine lv_iload_n hx hb dX0_sink_25 rfl (lv_at hl 2 rfl) ?_
          refine lv_i2b (v := nI kt) hx hb dX0_sink_26 (sp_i2b _ (by omega)) ?_
          refine sp_bast hC hW 2 1 rfl rfl (k := ka) (x := nI kt) (by omega) (by decide) (sp_nrb _ (by omega)) (sp_aI (sp_up (sk) (ka) (kt))) (sp_aup) dX0_sink_27 (fun H locs hW => ?_)
          have hW : sp_Wd D (sp_wX ad dc (sp_aI nb) (sp_aI (sp_up (sk) (ka) (kt))) (sp_aI (sp_dg (sp_E nb) sk)) (G) (M) (nI kp) (top) (known) (go) (ne)) A s.heap H locs := hW
          refine lv_aload_n hx hb dX0_sink_28 rfl (lv_at hl 0 rfl) ?_
          have hok2 := sp_up_ok hok (a := ka) hk1 hk2
          have hW : sp_Wd D (sp_wX ad dc (sp_aI nb) (sp_aI (sp_up sk ka kt)) (sp_aI (sp_dg (sp_E nb) sk)) (G) (M) (nI kp) (top) (known) (go) (ne)) A s.heap H locs := hW
          refine sp_callV (n := 0) (rest := []) hC hW (metX0_changeGraph l D ad dc nb (sp_up sk ka kt) hok2 _ _ _ _ _ _ _ _) q81 q83 qs1 q30 q84 rfl rfl rfl (by decide +kernel) ⟨by decide, by decide⟩ rfl hl rfl (Nat.le_of_ble_eq_true rfl) ⟨Nat.zero_le _, Nat.zero_le _⟩ dX0_sink_29 (fun u H locs hp hW => ?_)
          have hW : sp_Wd D (sp_wX ad dc (sp_aI nb) (sp_aI (sp_up sk ka kt)) (sp_aI (sp_dg (sp_E nb) (sp_up sk ka kt))) (G) (M) (nI 0) (top) (nI 0) (go) (ne)) A s.heap H locs := hW
          refine lv_iconst (v := nI 1) hx hb dX0_sink_32 (by decide) ?_
          obtain ⟨hsc, hse⟩ := sp_skS_p (sk := sk) hka hk1 hk2
          refine hret _ _ _ _ _ ((G, M, top, nI 0, go, ne)) dX0_sink_33 rfl ⟨sp_QB.p hsc, Or.inl rfl⟩ ?_
          rw [hse, sp_kpS_p hsc]
          exact hW
        · skip
          refine lv_iconst (v := nI 0) hx hb dX0_sink_18 (by decide) ?_
          have hn : ¬ sp_sC (nI ka) (t) := fun q => c2 q.2.2
          have hk2 : sp_Kn nb (sp_skS sk (nI ka) (t)) known go ne := by rw [sp_skS_n hn]; exact hk
          refine hret _ _ _ _ _ ((G, M, top, known, go, ne)) dX0_sink_19 rfl ⟨sp_QB.n hn, hk2⟩ ?_
          rw [sp_skS_n hn, sp_kpS_n hn]
          exact hW
  · skip
    have hp1 : r = nI 0 := hp.2 hPa
    subst hp1
    refine sp_if_eq (a := 0) (tgt := 18) hx hb dX0_sink_5 (by decide) (by omega) (fun cK => ?_) (fun cK => ?_)
    · skip
      refine lv_iconst (v := nI 0) hx hb dX0_sink_18 (by decide) ?_
      have hn : ¬ sp_sC (a) (t) := fun q => hPa q.1
      have hk2 : sp_Kn nb (sp_skS sk (a) (t)) known go ne := by rw [sp_skS_n hn]; exact hk
      refine hret _ _ _ _ _ ((G, M, top, known, go, ne)) dX0_sink_19 rfl ⟨sp_QB.n hn, hk2⟩ ?_
      rw [sp_skS_n hn, sp_kpS_n hn]
      exact hW
    · skip
      exfalso; omega
set_option maxHeartbeats 4000000 in
set_option maxRecDepth 100000 in
/-- drop -/
theorem metX0_drop (l : Launch) (D : va_G) (ad : Nat → Nat) (dc : Nat → ClassId) (nb sk : Nat → Nat) (hok : sp_Ok nb sk) (kp : Nat) (hkp : sp_KP nb sk kp) (G M : Nat → Int32) (top known go ne : Int32) (hk : sp_Kn nb sk known go ne) (a t : Int32) : sp_MI l D (sp_tX dc) yX0_drop cX0_drop 3 .int ({ frames := 2, cells := 0, slots := 0, locals := 44 } : Room) [.ref (ad 0), .int a, .int t] (sp_wX ad dc (sp_aI nb) (sp_aI sk) (sp_aI (sp_dg (sp_E nb) sk)) (G) (M) (nI kp) (top) (known) (go) (ne)) (S := (Nat → Int32) × (Nat → Int32) × Int32 × Int32 × Int32 × Int32) (fun r u => sp_QV (sp_dC a t) (sp_vD nb sk kp a t) r ∧ sp_Kn nb sk u.2.2.2.1 u.2.2.2.2.1 u.2.2.2.2.2) (fun u => sp_wX ad dc (sp_aI nb) (sp_aI sk) (sp_aI (sp_dg (sp_E nb) sk)) (u.1) (u.2.1) (nI (sp_kpD nb sk kp a t)) (u.2.2.1) (u.2.2.2.1) (u.2.2.2.2.1) (u.2.2.2.2.2)) := by
  refine sp_entI (own := RX0) (by decide) rfl (Nat.le_of_ble_eq_true rfl) ?_
  intro pg ev s mi args below meth cd A Q ls hC hW hret hl
  obtain ⟨hx, hb, -⟩ := id hC
  have hl : lv_has ls 3 [(0, .ref (ad 0)), (1, .int a), (2, .int t)] := hl
  refine lv_aload_n hx hb dX0_drop_0 rfl (lv_at hl 0 rfl) ?_
  refine lv_iload_n hx hb dX0_drop_1 rfl (lv_at hl 1 rfl) ?_
  refine sp_callI (n := 1) (rest := []) hC hW (metX0_isPlace l D ad dc _ (ad 0) _ _ (a)) q77 q79 qs0 q30 q80 rfl rfl rfl (by decide +kernel) ⟨by decide, by decide⟩ rfl hl rfl (Nat.le_of_ble_eq_true rfl) ⟨Nat.zero_le _, Nat.zero_le _⟩ dX0_drop_2 (fun r u H locs hp hW => ?_)
  have hW : sp_Wd D (sp_wX ad dc (sp_aI nb) (sp_aI sk) (sp_aI (sp_dg (sp_E nb) sk)) (G) (M) (nI kp) (top) (known) (go) (ne)) A s.heap H locs := hW
  by_cases hPa : sp_isP a
  · skip
    have hp1 : r = nI 1 := hp.1 hPa
    subst hp1
    refine sp_if_eq (a := 1) (tgt := 19) hx hb dX0_drop_5 (by decide) (by omega) (fun cK => ?_) (fun cK => ?_)
    · skip
      exfalso; omega
    · skip
      obtain ⟨ka, hka, rfl⟩ := sp_pl4 hPa.1 hPa.2
      refine lv_iload_n hx hb dX0_drop_8 rfl (lv_at hl 2 rfl) ?_
      refine lv_if_lt (tgt := 19) hx hb dX0_drop_9 (by decide) (fun c1 => ?_) (fun c1 => ?_)
      · skip
        refine lv_iconst (v := (-1)) hx hb dX0_drop_19 (by decide) ?_
        have hn : ¬ sp_dC (nI ka) (t) := fun q => q.2.1 c1
        refine hret _ _ _ _ _ ((G, M, top, known, go, ne)) dX0_drop_20 rfl ⟨sp_QV.n hn, hk⟩ ?_
        rw [sp_kpD_n hn]
        exact hW
      · skip
        obtain ⟨kt, hkt, rfl⟩ := nI_of c1
        refine lv_iload_n hx hb dX0_drop_12 rfl (lv_at hl 2 rfl) ?_
        refine lv_sipush (v := nI 1000) hx hb dX0_drop_13 (by decide) ?_
        refine sp_icmp_le (a := kt) (b := 1000) (tgt := 21) hx hb dX0_drop_16 (by decide) (by omega) (by omega) (fun c2 => ?_) (fun c2 => ?_)
        · skip
          have hkp1 := hkp.1
          refine lv_aload_n hx hb dX0_drop_21 rfl (lv_at hl 0 rfl) ?_
          refine lv_aload_n hx hb dX0_drop_22 rfl (lv_at hl 0 rfl) ?_
          refine sp_get0 hC hW 4 (by decide) q44 rfl (v := .int (nI kp)) rfl dX0_drop_23 ?_
          refine sp_callV (n := 1) (rest := []) hC hW (metX0_load l D ad dc _ _ _ _ _ _ _ _ _ _ kp (by omega)) q93 q95 qs2 q30 q96 rfl rfl rfl (by decide +kernel) ⟨by decide, by decide⟩ rfl hl rfl (Nat.le_of_ble_eq_true rfl) ⟨Nat.zero_le _, Nat.zero_le _⟩ dX0_drop_26 (fun u H locs hp hW => ?_)
          have hW : sp_Wd D (sp_wX ad dc (sp_aI nb) (sp_aI sk) (sp_aI (sp_dg (sp_E nb) sk)) (sp_aI (sp_dt kp)) (M) (nI kp) (top) (known) (go) (ne)) A s.heap H locs := hW
          refine lv_aload_n hx hb dX0_drop_29 rfl (lv_at hl 0 rfl) ?_
          refine sp_get0 hC hW 3 (by decide) q43 rfl (v := .ref (ad 4)) rfl dX0_drop_30 ?_
          refine lv_iload_n hx hb dX0_drop_33 rfl (lv_at hl 1 rfl) ?_
          refine lv_dup2_11 hx hb dX0_drop_34 rfl rfl ?_
          refine sp_iald hC hW 4 3 rfl rfl (k := ka) (v := nI (sp_dt kp ka)) (by omega) (by decide) rfl dX0_drop_35 ?_
          refine lv_iload_n hx hb dX0_drop_36 rfl (lv_at hl 2 rfl) ?_
          refine lv_iadd hx hb dX0_drop_37 ?_
          refine sp_top (y := nI (sp_dt kp ka + kt)) (nI_add _ _) ?_
          refine sp_iast hC hW 4 3 rfl rfl (k := ka) (x := nI (sp_dt kp ka + kt)) (by omega) (by decide) (sp_aI (sp_dP2 kp ka kt)) (sp_dP2_st) dX0_drop_38 (fun H locs hW => ?_)
          have hW : sp_Wd D (sp_wX ad dc (sp_aI nb) (sp_aI sk) (sp_aI (sp_dg (sp_E nb) sk)) (sp_aI (sp_dP2 kp ka kt)) (M) (nI kp) (top) (known) (go) (ne)) A s.heap H locs := hW
          refine lv_aload_n hx hb dX0_drop_39 rfl (lv_at hl 0 rfl) ?_
          have htt : sp_tot (sp_dP2 kp ka kt) ≤ 1048576 := by
            have h0 := sp_dt_lt kp 0
            have h1 := sp_dt_lt kp 1
            have h2 := sp_dt_lt kp 2
            have h3 := sp_dt_lt kp 3
            simp only [sp_tot, sp_dP2]
            rcases sp_lt4 hka with rfl | rfl | rfl | rfl <;> simp <;> omega
          refine sp_callV (n := 0) (rest := []) hC hW (metX0_settle l D ad dc nb sk hok (sp_dP2 kp ka kt) (htt) _ _ _ _ _ _ _) q101 q103 qs4 q30 q104 rfl rfl rfl (by decide +kernel) ⟨by decide, by decide⟩ rfl hl rfl (Nat.le_of_ble_eq_true rfl) ⟨Nat.zero_le _, Nat.zero_le _⟩ dX0_drop_40 (fun u H locs hp hW => ?_)
          have hW : sp_Wd D (sp_wX ad dc (sp_aI nb) (sp_aI sk) (sp_aI (sp_dg (sp_E nb) sk)) (sp_aI (sp_st (sp_E nb) sk (sp_dP2 kp ka kt))) (M) (nI kp) (nI (sp_ct (sp_E nb) sk (sp_dP2 kp ka kt))) (known) (go) (ne)) A s.heap H locs := hW
          refine lv_aload_n hx hb dX0_drop_43 rfl (lv_at hl 0 rfl) ?_
          refine lv_aload_n hx hb dX0_drop_44 rfl (lv_at hl 0 rfl) ?_
          refine sp_callI (n := 0) (rest := [.ref (ad 0)]) hC hW (metX0_packed l D ad dc _ (sp_st (sp_E nb) sk (sp_dP2 kp ka kt)) _ _ _ _ _ _ _ _) q105 q107 qs5 q30 q108 rfl rfl rfl (by decide +kernel) ⟨by decide, by decide⟩ rfl hl rfl (Nat.le_of_ble_eq_true rfl) ⟨Nat.zero_le _, Nat.zero_le _⟩ dX0_drop_45 (fun r u H locs hp hW => ?_)
          have hp : r = nI (sp_sp nb sk (sp_dP2 kp ka kt)) := hp
          subst hp
          have hW : sp_Wd D (sp_wX ad dc (sp_aI nb) (sp_aI sk) (sp_aI (sp_dg (sp_E nb) sk)) (sp_aI (sp_st (sp_E nb) sk (sp_dP2 kp ka kt))) (M) (nI kp) (nI (sp_ct (sp_E nb) sk (sp_dP2 kp ka kt))) (known) (go) (ne)) A s.heap H locs := hW
          refine sp_put0 hC hW 4 (by decide) q44 rfl rfl (ty := .int) (v := .int (nI (sp_sp nb sk (sp_dP2 kp ka kt)))) (by decide +kernel) rfl rfl (Nat.le_of_ble_eq_true rfl) dX0_drop_48 (fun H locs hW => ?_)
          have hW : sp_Wd D (sp_wX ad dc (sp_aI nb) (sp_aI sk) (sp_aI (sp_dg (sp_E nb) sk)) (sp_aI (sp_st (sp_E nb) sk (sp_dP2 kp ka kt))) (M) (nI (sp_sp nb sk (sp_dP2 kp ka kt))) (nI (sp_ct (sp_E nb) sk (sp_dP2 kp ka kt))) (known) (go) (ne)) A s.heap H locs := hW
          refine lv_aload_n hx hb dX0_drop_51 rfl (lv_at hl 0 rfl) ?_
          refine sp_get0 hC hW 5 (by decide) q45 rfl (v := .int (nI (sp_ct (sp_E nb) sk (sp_dP2 kp ka kt)))) rfl dX0_drop_52 ?_
          obtain ⟨hdc, hde, hdv⟩ := sp_dC_p (nb := nb) (sk := sk) (kp := kp) hka c2
          refine hret _ _ _ _ _ ((sp_aI (sp_st (sp_E nb) sk (sp_dP2 kp ka kt)), M, nI (sp_ct (sp_E nb) sk (sp_dP2 kp ka kt)), known, go, ne)) dX0_drop_55 rfl ⟨sp_QV.p hdc hdv.symm, hk⟩ ?_
          rw [hde]
          exact hW
        · skip
          refine lv_iconst (v := (-1)) hx hb dX0_drop_19 (by decide) ?_
          have hn : ¬ sp_dC (nI ka) (nI kt) := fun q => by have := (nI_leI (b := 1000) hkt (by decide)).mp q.2.2; omega
          refine hret _ _ _ _ _ ((G, M, top, known, go, ne)) dX0_drop_20 rfl ⟨sp_QV.n hn, hk⟩ ?_
          rw [sp_kpD_n hn]
          exact hW
  · skip
    have hp1 : r = nI 0 := hp.2 hPa
    subst hp1
    refine sp_if_eq (a := 0) (tgt := 19) hx hb dX0_drop_5 (by decide) (by omega) (fun cK => ?_) (fun cK => ?_)
    · skip
      refine lv_iconst (v := (-1)) hx hb dX0_drop_19 (by decide) ?_
      have hn : ¬ sp_dC (a) (t) := fun q => hPa q.1
      refine hret _ _ _ _ _ ((G, M, top, known, go, ne)) dX0_drop_20 rfl ⟨sp_QV.n hn, hk⟩ ?_
      rw [sp_kpD_n hn]
      exact hW
    · skip
      exfalso; omega
set_option maxHeartbeats 4000000 in
set_option maxRecDepth 100000 in
/-- state -/
theorem metX0_state (l : Launch) (D : va_G) (ad : Nat → Nat) (dc : Nat → ClassId) (nb sk : Nat → Nat) (hok : sp_Ok nb sk) (kp : Nat) (hkp : sp_KP nb sk kp) (G M : Nat → Int32) (top known go ne : Int32) (hk : sp_Kn nb sk known go ne)  : sp_MI l D (sp_tX dc) yX0_state cX0_state 1 .int ({ frames := 0, cells := 0, slots := 0, locals := 0 } : Room) [.ref (ad 0)] (sp_wX ad dc (sp_aI nb) (sp_aI sk) (sp_aI (sp_dg (sp_E nb) sk)) (G) (M) (nI kp) (top) (known) (go) (ne)) (S := (Nat → Int32) × (Nat → Int32) × Int32 × Int32 × Int32 × Int32) (fun r u => r = nI kp ∧ sp_Kn nb sk u.2.2.2.1 u.2.2.2.2.1 u.2.2.2.2.2) (fun u => sp_wX ad dc (sp_aI nb) (sp_aI sk) (sp_aI (sp_dg (sp_E nb) sk)) (u.1) (u.2.1) (nI kp) (u.2.2.1) (u.2.2.2.1) (u.2.2.2.2.1) (u.2.2.2.2.2)) := by
  refine sp_entI (own := RX0) (by decide) rfl (Nat.le_of_ble_eq_true rfl) ?_
  intro pg ev s mi args below meth cd A Q ls hC hW hret hl
  obtain ⟨hx, hb, -⟩ := id hC
  have hl : lv_has ls 1 [(0, .ref (ad 0))] := hl
  refine lv_aload_n hx hb dX0_state_0 rfl (lv_at hl 0 rfl) ?_
  refine sp_get0 hC hW 4 (by decide) q44 rfl (v := .int (nI kp)) rfl dX0_state_1 ?_
  exact hret _ _ _ _ _ ((G, M, top, known, go, ne)) dX0_state_4 (rfl) (⟨rfl, hk⟩) hW
set_option maxHeartbeats 4000000 in
set_option maxRecDepth 100000 in
/-- set -/
theorem metX0_set (l : Launch) (D : va_G) (ad : Nat → Nat) (dc : Nat → ClassId) (nb sk : Nat → Nat) (hok : sp_Ok nb sk) (kp : Nat) (hkp : sp_KP nb sk kp) (G M : Nat → Int32) (top known go ne : Int32) (hk : sp_Kn nb sk known go ne) (x : Int32) : sp_MI l D (sp_tX dc) yX0_set cX0_set 2 .boolean ({ frames := 2, cells := 0, slots := 0, locals := 44 } : Room) [.ref (ad 0), .int x] (sp_wX ad dc (sp_aI nb) (sp_aI sk) (sp_aI (sp_dg (sp_E nb) sk)) (G) (M) (nI kp) (top) (known) (go) (ne)) (S := (Nat → Int32) × (Nat → Int32) × Int32 × Int32 × Int32 × Int32) (fun r u => sp_QB (sp_isS nb sk x) r ∧ sp_Kn nb sk u.2.2.2.1 u.2.2.2.2.1 u.2.2.2.2.2) (fun u => sp_wX ad dc (sp_aI nb) (sp_aI sk) (sp_aI (sp_dg (sp_E nb) sk)) (u.1) (u.2.1) (nI (sp_kpT nb sk kp x)) (u.2.2.1) (u.2.2.2.1) (u.2.2.2.2.1) (u.2.2.2.2.2)) := by
  refine sp_entI (own := RX0) (by decide) rfl (Nat.le_of_ble_eq_true rfl) ?_
  intro pg ev s mi args below meth cd A Q ls hC hW hret hl
  obtain ⟨hx, hb, -⟩ := id hC
  have hl : lv_has ls 2 [(0, .ref (ad 0)), (1, .int x)] := hl
  refine lv_aload_n hx hb dX0_set_0 rfl (lv_at hl 0 rfl) ?_
  refine lv_iload_n hx hb dX0_set_1 rfl (lv_at hl 1 rfl) ?_
  refine sp_callI (n := 1) (rest := []) hC hW (metX0_isStable l D ad dc nb sk hok _ _ _ _ _ _ _ _ _ (x)) q117 q119 qs6 q30 q120 rfl rfl rfl (by decide +kernel) ⟨by decide, by decide⟩ rfl hl rfl (Nat.le_of_ble_eq_true rfl) ⟨Nat.zero_le _, Nat.zero_le _⟩ dX0_set_2 (fun r u H locs hp hW => ?_)
  have hW : sp_Wd D (sp_wX ad dc (sp_aI nb) (sp_aI sk) (sp_aI (sp_dg (sp_E nb) sk)) (G) (M) (nI kp) (top) (known) (go) (ne)) A s.heap H locs := hW
  by_cases hs : sp_isS nb sk x
  · skip
    have hp1 : r = nI 1 := hp.1 hs
    subst hp1
    refine sp_if_ne (a := 1) (tgt := 10) hx hb dX0_set_5 (by decide) (by omega) (fun cK => ?_) (fun cK => ?_)
    · skip
      have hs2 := hs
      obtain ⟨j, hj, rfl, hsb⟩ := hs
      refine lv_aload_n hx hb dX0_set_10 rfl (lv_at hl 0 rfl) ?_
      refine lv_iload_n hx hb dX0_set_11 rfl (lv_at hl 1 rfl) ?_
      refine sp_put0 hC hW 4 (by decide) q44 rfl rfl (ty := .int) (v := .int (nI j)) (by decide +kernel) rfl rfl (Nat.le_of_ble_eq_true rfl) dX0_set_12 (fun H locs hW => ?_)
      have hW : sp_Wd D (sp_wX ad dc (sp_aI nb) (sp_aI sk) (sp_aI (sp_dg (sp_E nb) sk)) (G) (M) (nI j) (top) (known) (go) (ne)) A s.heap H locs := hW
      refine lv_iconst (v := nI 1) hx hb dX0_set_15 (by decide) ?_
      refine hret _ _ _ _ _ ((G, M, top, known, go, ne)) dX0_set_16 rfl ⟨sp_QB.p hs2, hk⟩ ?_
      unfold sp_kpT
      rw [sp_ite_p hs2, nI_clamp (by omega)]
      exact hW
    · skip
      exfalso; omega
  · skip
    have hp1 : r = nI 0 := hp.2 hs
    subst hp1
    refine sp_if_ne (a := 0) (tgt := 10) hx hb dX0_set_5 (by decide) (by omega) (fun cK => ?_) (fun cK => ?_)
    · skip
      exfalso; omega
    · skip
      refine lv_iconst (v := nI 0) hx hb dX0_set_8 (by decide) ?_
      refine hret _ _ _ _ _ ((G, M, top, known, go, ne)) dX0_set_9 rfl ⟨sp_QB.n hs, hk⟩ ?_
      unfold sp_kpT
      rw [sp_ite_n hs]
      exact hW
set_option maxHeartbeats 4000000 in
set_option maxRecDepth 100000 in
/-- degree -/
theorem metX0_degree (l : Launch) (D : va_G) (ad : Nat → Nat) (dc : Nat → ClassId) (nb sk : Nat → Nat) (hok : sp_Ok nb sk) (kp : Nat) (hkp : sp_KP nb sk kp) (G M : Nat → Int32) (top known go ne : Int32) (hk : sp_Kn nb sk known go ne) (a : Int32) : sp_MI l D (sp_tX dc) yX0_degree cX0_degree 2 .int ({ frames := 1, cells := 0, slots := 0, locals := 21 } : Room) [.ref (ad 0), .int a] (sp_wX ad dc (sp_aI nb) (sp_aI sk) (sp_aI (sp_dg (sp_E nb) sk)) (G) (M) (nI kp) (top) (known) (go) (ne)) (S := (Nat → Int32) × (Nat → Int32) × Int32 × Int32 × Int32 × Int32) (fun r u => sp_QV (sp_isP a) (nI (sp_dg (sp_E nb) sk a.toNatClampNeg)) r ∧ sp_Kn nb sk u.2.2.2.1 u.2.2.2.2.1 u.2.2.2.2.2) (fun u => sp_wX ad dc (sp_aI nb) (sp_aI sk) (sp_aI (sp_dg (sp_E nb) sk)) (u.1) (u.2.1) (nI kp) (u.2.2.1) (u.2.2.2.1) (u.2.2.2.2.1) (u.2.2.2.2.2)) := by
  refine sp_entI (own := RX0) (by decide) rfl (Nat.le_of_ble_eq_true rfl) ?_
  intro pg ev s mi args below meth cd A Q ls hC hW hret hl
  obtain ⟨hx, hb, -⟩ := id hC
  have hl : lv_has ls 2 [(0, .ref (ad 0)), (1, .int a)] := hl
  refine lv_aload_n hx hb dX0_degree_0 rfl (lv_at hl 0 rfl) ?_
  refine lv_iload_n hx hb dX0_degree_1 rfl (lv_at hl 1 rfl) ?_
  refine sp_callI (n := 1) (rest := []) hC hW (metX0_isPlace l D ad dc _ (ad 0) _ _ (a)) q77 q79 qs0 q30 q80 rfl rfl rfl (by decide +kernel) ⟨by decide, by decide⟩ rfl hl rfl (Nat.le_of_ble_eq_true rfl) ⟨Nat.zero_le _, Nat.zero_le _⟩ dX0_degree_2 (fun r u H locs hp hW => ?_)
  have hW : sp_Wd D (sp_wX ad dc (sp_aI nb) (sp_aI sk) (sp_aI (sp_dg (sp_E nb) sk)) (G) (M) (nI kp) (top) (known) (go) (ne)) A s.heap H locs := hW
  by_cases hPa : sp_isP a
  · skip
    have hp1 : r = nI 1 := hp.1 hPa
    subst hp1
    refine sp_if_eq (a := 1) (tgt := 17) hx hb dX0_degree_5 (by decide) (by omega) (fun cK => ?_) (fun cK => ?_)
    · skip
      exfalso; omega
    · skip
      have hP2 := hPa
      obtain ⟨ka, hka, rfl⟩ := sp_pl4 hPa.1 hPa.2
      refine lv_aload_n hx hb dX0_degree_8 rfl (lv_at hl 0 rfl) ?_
      refine sp_get0 hC hW 2 (by decide) q42 rfl (v := .ref (ad 3)) rfl dX0_degree_9 ?_
      refine lv_iload_n hx hb dX0_degree_12 rfl (lv_at hl 1 rfl) ?_
      refine sp_bald hC hW 3 2 rfl rfl (k := ka) (v := nI (sp_dg (sp_E nb) sk ka)) (by omega) (by decide) rfl dX0_degree_13 ?_
      refine lv_goto (tgt := 18) hx hb dX0_degree_14 (by decide) ?_
      exact hret _ _ _ _ _ ((G, M, top, known, go, ne)) dX0_degree_18 (rfl) (⟨sp_QV.p hP2 (by rw [nI_clamp (by omega)]), hk⟩) hW
  · skip
    have hp1 : r = nI 0 := hp.2 hPa
    subst hp1
    refine sp_if_eq (a := 0) (tgt := 17) hx hb dX0_degree_5 (by decide) (by omega) (fun cK => ?_) (fun cK => ?_)
    · skip
      refine lv_iconst (v := (-1)) hx hb dX0_degree_17 (by decide) ?_
      exact hret _ _ _ _ _ ((G, M, top, known, go, ne)) dX0_degree_18 (rfl) (⟨sp_QV.n hPa, hk⟩) hW
    · skip
      exfalso; omega
set_option maxHeartbeats 4000000 in
set_option maxRecDepth 100000 in
/-- order -/
theorem metX0_order (l : Launch) (D : va_G) (ad : Nat → Nat) (dc : Nat → ClassId) (nb sk : Nat → Nat) (hok : sp_Ok nb sk) (kp : Nat) (hkp : sp_KP nb sk kp) (G M : Nat → Int32) (top known go ne : Int32) (hk : sp_Kn nb sk known go ne)  : sp_MI l D (sp_tX dc) yX0_order cX0_order 1 .int ({ frames := 3, cells := 0, slots := 0, locals := 72 } : Room) [.ref (ad 0)] (sp_wX ad dc (sp_aI nb) (sp_aI sk) (sp_aI (sp_dg (sp_E nb) sk)) (G) (M) (nI kp) (top) (known) (go) (ne)) (S := (Nat → Int32) × (Nat → Int32) × Int32 × Int32 × Int32 × Int32) (fun r u => r = nI (sp_cn nb sk) ∧ sp_Kn nb sk u.2.2.2.1 u.2.2.2.2.1 u.2.2.2.2.2) (fun u => sp_wX ad dc (sp_aI nb) (sp_aI sk) (sp_aI (sp_dg (sp_E nb) sk)) (u.1) (u.2.1) (nI kp) (u.2.2.1) (u.2.2.2.1) (u.2.2.2.2.1) (u.2.2.2.2.2)) := by
  refine sp_entI (own := RX0) (by decide) rfl (Nat.le_of_ble_eq_true rfl) ?_
  intro pg ev s mi args below meth cd A Q ls hC hW hret hl
  obtain ⟨hx, hb, -⟩ := id hC
  have hl : lv_has ls 1 [(0, .ref (ad 0))] := hl
  refine lv_aload_n hx hb dX0_order_0 rfl (lv_at hl 0 rfl) ?_
  refine sp_callV (n := 0) (rest := []) hC hW (metX0_learn l D ad dc nb sk hok _ _ _ _ _ _ _ _ hk) q137 q139 qs8 q30 q140 rfl rfl rfl (by decide +kernel) ⟨by decide, by decide⟩ rfl hl rfl (Nat.le_of_ble_eq_true rfl) ⟨Nat.zero_le _, Nat.zero_le _⟩ dX0_order_1 (fun u H locs hp hW => ?_)
  obtain ⟨G1, M1, t1⟩ := u
  have hW : sp_Wd D (sp_wX ad dc (sp_aI nb) (sp_aI sk) (sp_aI (sp_dg (sp_E nb) sk)) (G1) (M1) (nI kp) (t1) (nI 1) (nI (sp_cn nb sk)) (nI (sp_ne nb sk))) A s.heap H locs := hW
  refine lv_aload_n hx hb dX0_order_4 rfl (lv_at hl 0 rfl) ?_
  refine sp_get0 hC hW 7 (by decide) q47 rfl (v := .int (nI (sp_cn nb sk))) rfl dX0_order_5 ?_
  exact hret _ _ _ _ _ ((G1, M1, t1, nI 1, nI (sp_cn nb sk), nI (sp_ne nb sk))) dX0_order_8 (rfl) (⟨rfl, Or.inr ⟨rfl, rfl, rfl⟩⟩) hW
set_option maxHeartbeats 4000000 in
set_option maxRecDepth 100000 in
/-- neutral -/
theorem metX0_neutral (l : Launch) (D : va_G) (ad : Nat → Nat) (dc : Nat → ClassId) (nb sk : Nat → Nat) (hok : sp_Ok nb sk) (kp : Nat) (hkp : sp_KP nb sk kp) (G M : Nat → Int32) (top known go ne : Int32) (hk : sp_Kn nb sk known go ne)  : sp_MI l D (sp_tX dc) yX0_neutral cX0_neutral 1 .int ({ frames := 3, cells := 0, slots := 0, locals := 72 } : Room) [.ref (ad 0)] (sp_wX ad dc (sp_aI nb) (sp_aI sk) (sp_aI (sp_dg (sp_E nb) sk)) (G) (M) (nI kp) (top) (known) (go) (ne)) (S := (Nat → Int32) × (Nat → Int32) × Int32 × Int32 × Int32 × Int32) (fun r u => r = nI (sp_ne nb sk) ∧ sp_Kn nb sk u.2.2.2.1 u.2.2.2.2.1 u.2.2.2.2.2) (fun u => sp_wX ad dc (sp_aI nb) (sp_aI sk) (sp_aI (sp_dg (sp_E nb) sk)) (u.1) (u.2.1) (nI kp) (u.2.2.1) (u.2.2.2.1) (u.2.2.2.2.1) (u.2.2.2.2.2)) := by
  refine sp_entI (own := RX0) (by decide) rfl (Nat.le_of_ble_eq_true rfl) ?_
  intro pg ev s mi args below meth cd A Q ls hC hW hret hl
  obtain ⟨hx, hb, -⟩ := id hC
  have hl : lv_has ls 1 [(0, .ref (ad 0))] := hl
  refine lv_aload_n hx hb dX0_neutral_0 rfl (lv_at hl 0 rfl) ?_
  refine sp_callV (n := 0) (rest := []) hC hW (metX0_learn l D ad dc nb sk hok _ _ _ _ _ _ _ _ hk) q137 q139 qs8 q30 q140 rfl rfl rfl (by decide +kernel) ⟨by decide, by decide⟩ rfl hl rfl (Nat.le_of_ble_eq_true rfl) ⟨Nat.zero_le _, Nat.zero_le _⟩ dX0_neutral_1 (fun u H locs hp hW => ?_)
  obtain ⟨G1, M1, t1⟩ := u
  have hW : sp_Wd D (sp_wX ad dc (sp_aI nb) (sp_aI sk) (sp_aI (sp_dg (sp_E nb) sk)) (G1) (M1) (nI kp) (t1) (nI 1) (nI (sp_cn nb sk)) (nI (sp_ne nb sk))) A s.heap H locs := hW
  refine lv_aload_n hx hb dX0_neutral_4 rfl (lv_at hl 0 rfl) ?_
  refine sp_get0 hC hW 8 (by decide) q48 rfl (v := .int (nI (sp_ne nb sk))) rfl dX0_neutral_5 ?_
  exact hret _ _ _ _ _ ((G1, M1, t1, nI 1, nI (sp_cn nb sk), nI (sp_ne nb sk))) dX0_neutral_8 (rfl) (⟨rfl, Or.inr ⟨rfl, rfl, rfl⟩⟩) hW
set_option maxHeartbeats 4000000 in
set_option maxRecDepth 100000 in
/-- opposite -/
theorem metX0_opposite (l : Launch) (D : va_G) (ad : Nat → Nat) (dc : Nat → ClassId) (nb sk : Nat → Nat) (hok : sp_Ok nb sk) (kp : Nat) (hkp : sp_KP nb sk kp) (G M : Nat → Int32) (top known go ne : Int32) (hk : sp_Kn nb sk known go ne) (x : Int32) : sp_MI l D (sp_tX dc) yX0_opposite cX0_opposite 7 .int ({ frames := 3, cells := 0, slots := 0, locals := 72 } : Room) [.ref (ad 0), .int x] (sp_wX ad dc (sp_aI nb) (sp_aI sk) (sp_aI (sp_dg (sp_E nb) sk)) (G) (M) (nI kp) (top) (known) (go) (ne)) (S := (Nat → Int32) × (Nat → Int32) × Int32 × Int32 × Int32 × Int32) (fun r u => sp_QV (sp_isR nb sk x) (nI (sp_op nb sk x.toNatClampNeg)) r ∧ sp_Kn nb sk u.2.2.2.1 u.2.2.2.2.1 u.2.2.2.2.2) (fun u => sp_wX ad dc (sp_aI nb) (sp_aI sk) (sp_aI (sp_dg (sp_E nb) sk)) (u.1) (u.2.1) (nI kp) (u.2.2.1) (u.2.2.2.1) (u.2.2.2.2.1) (u.2.2.2.2.2)) := by
  refine sp_entI (own := RX0) (by decide) rfl (Nat.le_of_ble_eq_true rfl) ?_
  intro pg ev s mi args below meth cd A Q ls hC hW hret hl
  obtain ⟨hx, hb, -⟩ := id hC
  have hl : lv_has ls 7 [(0, .ref (ad 0)), (1, .int x)] := hl
  refine lv_aload_n hx hb dX0_opposite_0 rfl (lv_at hl 0 rfl) ?_
  refine lv_iload_n hx hb dX0_opposite_1 rfl (lv_at hl 1 rfl) ?_
  refine sp_callI (n := 1) (rest := []) hC hW (metX0_recurrent l D ad dc nb sk hok _ _ _ _ _ _ _ _ x) q161 q126 q127 q30 q128 rfl rfl rfl (by decide +kernel) ⟨by decide, by decide⟩ rfl hl rfl (Nat.le_of_ble_eq_true rfl) ⟨Nat.zero_le _, Nat.zero_le _⟩ dX0_opposite_2 (fun r u H locs hp hW => ?_)
  have hW : sp_Wd D (sp_wX ad dc (sp_aI nb) (sp_aI sk) (sp_aI (sp_dg (sp_E nb) sk)) (G) (M) (nI kp) (top) (known) (go) (ne)) A s.heap H locs := hW
  by_cases hr : sp_isR nb sk x
  · skip
    have hp1 : r = nI 1 := hp.1 hr
    subst hp1
    refine sp_if_ne (a := 1) (tgt := 10) hx hb dX0_opposite_5 (by decide) (by omega) (fun cK => ?_) (fun cK => ?_)
    · skip
      have hr2 := hr
      obtain ⟨j, hj, rfl, hrj⟩ := hr
      refine lv_aload_n hx hb dX0_opposite_10 rfl (lv_at hl 0 rfl) ?_
      refine sp_callV (n := 0) (rest := []) hC hW (metX0_learn l D ad dc nb sk hok _ _ _ _ _ _ _ _ hk) q137 q139 qs8 q30 q140 rfl rfl rfl (by decide +kernel) ⟨by decide, by decide⟩ rfl hl rfl (Nat.le_of_ble_eq_true rfl) ⟨Nat.zero_le _, Nat.zero_le _⟩ dX0_opposite_11 (fun u H locs hp hW => ?_)
      obtain ⟨G1, M1, t1⟩ := u
      have hW : sp_Wd D (sp_wX ad dc (sp_aI nb) (sp_aI sk) (sp_aI (sp_dg (sp_E nb) sk)) (G1) (M1) (nI kp) (t1) (nI 1) (nI (sp_cn nb sk)) (nI (sp_ne nb sk))) A s.heap H locs := hW
      refine lv_aload_n hx hb dX0_opposite_14 rfl (lv_at hl 0 rfl) ?_
      refine lv_iconst (v := nI 4) hx hb dX0_opposite_15 (by decide) ?_
      refine sp_callI (n := 1) (rest := []) hC hW (metX0_settledMultiple l D ad dc nb sk hok _ _ _ _ _ _ _ _ 4 (by decide)) q149 q151 qs11 q30 q152 rfl rfl rfl (by decide +kernel) ⟨by decide, by decide⟩ rfl hl rfl (Nat.le_of_ble_eq_true rfl) ⟨Nat.zero_le _, Nat.zero_le _⟩ dX0_opposite_16 (fun r u H locs hp hW => ?_)
      have hp : r = nI (sp_sp nb sk (fun k => 4 * sp_fl nb sk k)) := hp
      subst hp
      obtain ⟨G2, t2⟩ := u
      have hW : sp_Wd D (sp_wX ad dc (sp_aI nb) (sp_aI sk) (sp_aI (sp_dg (sp_E nb) sk)) (G2) (M1) (nI kp) (t2) (nI 1) (nI (sp_cn nb sk)) (nI (sp_ne nb sk))) A s.heap H locs := hW
      have hT := sp_sp_lt hok (fun k => 4 * sp_fl nb sk k)
      have hne := sp_ne_lt hok
      obtain ⟨_, -, hst⟩ := sp_sp_leg hok (fun k => 4 * sp_fl nb sk k)
      refine lv_istore_n (lv' := [(2, .int (nI (sp_sp nb sk (fun k => 4 * sp_fl nb sk k)))), (0, .ref (ad 0)), (1, .int (nI j))]) hx hb dX0_opposite_19 rfl hl (by decide) rfl (fun ls hl => ?_)
      refine lv_iconst (v := nI 0) hx hb dX0_opposite_20 (by decide) ?_
      refine lv_istore_n (lv' := [(3, .int (nI 0)), (2, .int (nI (sp_sp nb sk (fun k => 4 * sp_fl nb sk k)))), (0, .ref (ad 0)), (1, .int (nI j))]) hx hb dX0_opposite_21 rfl hl (by decide) rfl (fun ls hl => ?_)
      have loop : ∀ (n i : Nat) (g1 : Nat → Int32), i + n = 4 → (∀ k, k < i → g1 k = nI ((fun k => 4 * sp_fl nb sk k - sp_dt (sp_sp nb sk (fun k => 4 * sp_fl nb sk k)) k - sp_dt j k + sp_dt (sp_ne nb sk) k) k)) → ∀ (H : Heap) (locs : List Loc) (ls : Array Slot), sp_Wd D (sp_wX ad dc (sp_aI nb) (sp_aI sk) (sp_aI (sp_dg (sp_E nb) sk)) (g1) (M1) (nI kp) (t2) (nI 1) (nI (sp_cn nb sk)) (nI (sp_ne nb sk))) A s.heap H locs → lv_has ls 7 [(0, .ref (ad 0)), (1, .int (nI j)), (2, .int (nI (sp_sp nb sk (fun k => 4 * sp_fl nb sk k)))), (3, .int (nI i))] → W pg l ev ({ frames := 3, cells := 0, slots := 0, locals := 72 } : Room) s mi args below meth cd H locs 0 0 Q (F0 mi 22 ls []) := by
        intro n
        induction n with
        | zero =>
          intro i g1 hi_i hg H locs ls hW hl
          refine lv_iload_n hx hb dX0_opposite_22 rfl (lv_at hl 3 rfl) ?_
          refine lv_iconst (v := nI 4) hx hb dX0_opposite_23 (by decide) ?_
          refine sp_icmp_ge (a := i) (b := 4) (tgt := 85) hx hb dX0_opposite_24 (by decide) (by omega) (by omega) (fun c => ?_) (fun c => ?_)
          · skip
            refine lv_aload_n hx hb dX0_opposite_85 rfl (lv_at hl 0 rfl) ?_
            have hW := hW.arr 4 rfl (sp_aI (fun k => 4 * sp_fl nb sk k - sp_dt (sp_sp nb sk (fun k => 4 * sp_fl nb sk k)) k - sp_dt j k + sp_dt (sp_ne nb sk) k)) (fun j hj => hg j (by omega))
            have hW : sp_Wd D (sp_wX ad dc (sp_aI nb) (sp_aI sk) (sp_aI (sp_dg (sp_E nb) sk)) (sp_aI (fun k => 4 * sp_fl nb sk k - sp_dt (sp_sp nb sk (fun k => 4 * sp_fl nb sk k)) k - sp_dt j k + sp_dt (sp_ne nb sk) k)) (M1) (nI kp) (t2) (nI 1) (nI (sp_cn nb sk)) (nI (sp_ne nb sk))) A s.heap H locs := hW
            have htt : sp_tot (fun k => 4 * sp_fl nb sk k - sp_dt (sp_sp nb sk (fun k => 4 * sp_fl nb sk k)) k - sp_dt j k + sp_dt (sp_ne nb sk) k) ≤ 1048576 := by
              have h0 := sp_fl8 hok 0 (by decide)
              have h1 := sp_fl8 hok 1 (by decide)
              have h2 := sp_fl8 hok 2 (by decide)
              have h3 := sp_fl8 hok 3 (by decide)
              have g0 := sp_dt_lt (sp_ne nb sk) 0
              have g1 := sp_dt_lt (sp_ne nb sk) 1
              have g2 := sp_dt_lt (sp_ne nb sk) 2
              have g3 := sp_dt_lt (sp_ne nb sk) 3
              simp only [sp_tot]; omega
            refine sp_callV (n := 0) (rest := []) hC hW (metX0_settle l D ad dc nb sk hok (fun k => 4 * sp_fl nb sk k - sp_dt (sp_sp nb sk (fun k => 4 * sp_fl nb sk k)) k - sp_dt j k + sp_dt (sp_ne nb sk) k) (htt) _ _ _ _ _ _ _) q101 q103 qs4 q30 q104 rfl rfl rfl (by decide +kernel) ⟨by decide, by decide⟩ rfl hl rfl (Nat.le_of_ble_eq_true rfl) ⟨Nat.zero_le _, Nat.zero_le _⟩ dX0_opposite_86 (fun u H locs hp hW => ?_)
            have hW : sp_Wd D (sp_wX ad dc (sp_aI nb) (sp_aI sk) (sp_aI (sp_dg (sp_E nb) sk)) (sp_aI (sp_st (sp_E nb) sk (fun k => 4 * sp_fl nb sk k - sp_dt (sp_sp nb sk (fun k => 4 * sp_fl nb sk k)) k - sp_dt j k + sp_dt (sp_ne nb sk) k))) (M1) (nI kp) (nI (sp_ct (sp_E nb) sk (fun k => 4 * sp_fl nb sk k - sp_dt (sp_sp nb sk (fun k => 4 * sp_fl nb sk k)) k - sp_dt j k + sp_dt (sp_ne nb sk) k))) (nI 1) (nI (sp_cn nb sk)) (nI (sp_ne nb sk))) A s.heap H locs := hW
            refine lv_aload_n hx hb dX0_opposite_89 rfl (lv_at hl 0 rfl) ?_
            refine sp_callI (n := 0) (rest := []) hC hW (metX0_packed l D ad dc _ (sp_st (sp_E nb) sk (fun k => 4 * sp_fl nb sk k - sp_dt (sp_sp nb sk (fun k => 4 * sp_fl nb sk k)) k - sp_dt j k + sp_dt (sp_ne nb sk) k)) _ _ _ _ _ _ _ _) q105 q107 qs5 q30 q108 rfl rfl rfl (by decide +kernel) ⟨by decide, by decide⟩ rfl hl rfl (Nat.le_of_ble_eq_true rfl) ⟨Nat.zero_le _, Nat.zero_le _⟩ dX0_opposite_90 (fun r u H locs hp hW => ?_)
            have hp : r = nI (sp_op nb sk j) := hp
            subst hp
            have hW : sp_Wd D (sp_wX ad dc (sp_aI nb) (sp_aI sk) (sp_aI (sp_dg (sp_E nb) sk)) (sp_aI (sp_st (sp_E nb) sk (fun k => 4 * sp_fl nb sk k - sp_dt (sp_sp nb sk (fun k => 4 * sp_fl nb sk k)) k - sp_dt j k + sp_dt (sp_ne nb sk) k))) (M1) (nI kp) (nI (sp_ct (sp_E nb) sk (fun k => 4 * sp_fl nb sk k - sp_dt (sp_sp nb sk (fun k => 4 * sp_fl nb sk k)) k - sp_dt j k + sp_dt (sp_ne nb sk) k))) (nI 1) (nI (sp_cn nb sk)) (nI (sp_ne nb sk))) A s.heap H locs := hW
            exact hret _ _ _ _ _ ((sp_aI (sp_st (sp_E nb) sk (fun k => 4 * sp_fl nb sk k - sp_dt (sp_sp nb sk (fun k => 4 * sp_fl nb sk k)) k - sp_dt j k + sp_dt (sp_ne nb sk) k)), M1, nI (sp_ct (sp_E nb) sk (fun k => 4 * sp_fl nb sk k - sp_dt (sp_sp nb sk (fun k => 4 * sp_fl nb sk k)) k - sp_dt j k + sp_dt (sp_ne nb sk) k)), nI 1, nI (sp_cn nb sk), nI (sp_ne nb sk))) dX0_opposite_93 (rfl) (⟨sp_QV.p hr2 (by rw [nI_clamp (by omega)]), Or.inr ⟨rfl, rfl, rfl⟩⟩) hW
          · skip
            exfalso; omega
        | succ n ih =>
          intro i g1 hi_i hg H locs ls hW hl
          refine lv_iload_n hx hb dX0_opposite_22 rfl (lv_at hl 3 rfl) ?_
          refine lv_iconst (v := nI 4) hx hb dX0_opposite_23 (by decide) ?_
          refine sp_icmp_ge (a := i) (b := 4) (tgt := 85) hx hb dX0_opposite_24 (by decide) (by omega) (by omega) (fun c => ?_) (fun c => ?_)
          · skip
            exfalso; omega
          · skip
            have hd1 := hok.dg1 i (by omega)
            have hle := sp_dt_fl hok hst i (by omega)
            have hle2 := sp_dt_fl hok hrj.1 i (by omega)
            refine lv_aload_n hx hb dX0_opposite_27 rfl (lv_at hl 0 rfl) ?_
            refine sp_get0 hC hW 2 (by decide) q42 rfl (v := .ref (ad 3)) rfl dX0_opposite_28 ?_
            refine lv_iload_n hx hb dX0_opposite_31 rfl (lv_at hl 3 rfl) ?_
            refine sp_bald hC hW 3 2 rfl rfl (k := i) (v := nI (sp_dg (sp_E nb) sk i)) (by omega) (by decide) rfl dX0_opposite_32 ?_
            refine lv_iconst (v := nI 1) hx hb dX0_opposite_33 (by decide) ?_
            refine lv_isub hx hb dX0_opposite_34 ?_
            refine sp_top (y := nI (sp_fl nb sk i)) (pk_sub hd1) ?_
            refine lv_istore (lv' := [(4, .int (nI (sp_fl nb sk i))), (0, .ref (ad 0)), (1, .int (nI j)), (2, .int (nI (sp_sp nb sk (fun k => 4 * sp_fl nb sk k)))), (3, .int (nI i))]) hx hb dX0_opposite_35 hl (by decide) rfl (fun ls hl => ?_)
            refine lv_aload_n hx hb dX0_opposite_37 rfl (lv_at hl 1 rfl) ?_
            refine lv_iload_n hx hb dX0_opposite_38 rfl (lv_at hl 2 rfl) ?_
            refine lv_iload_n hx hb dX0_opposite_39 rfl (lv_at hl 4 rfl) ?_
            refine sp_callI (n := 2) (rest := []) hC hW (metX0_digit l D ad dc _ (ad 0) _ _ (j) (i) (by omega) (by omega)) q97 q99 qs3 q30 q100 rfl rfl rfl (by decide +kernel) ⟨by decide, by decide⟩ rfl hl rfl (Nat.le_of_ble_eq_true rfl) ⟨Nat.zero_le _, Nat.zero_le _⟩ dX0_opposite_40 (fun r u H locs hp hW => ?_)
            have hp : r = nI (sp_dt j i) := hp
            subst hp
            have hW : sp_Wd D (sp_wX ad dc (sp_aI nb) (sp_aI sk) (sp_aI (sp_dg (sp_E nb) sk)) (g1) (M1) (nI kp) (t2) (nI 1) (nI (sp_cn nb sk)) (nI (sp_ne nb sk))) A s.heap H locs := hW
            refine lv_istore (lv' := [(5, .int (nI (sp_dt j i))), (4, .int (nI (sp_fl nb sk i))), (0, .ref (ad 0)), (1, .int (nI j)), (2, .int (nI (sp_sp nb sk (fun k => 4 * sp_fl nb sk k)))), (3, .int (nI i))]) hx hb dX0_opposite_43 hl (by decide) rfl (fun ls hl => ?_)
            refine lv_aload_n hx hb dX0_opposite_45 rfl (lv_at hl 2 rfl) ?_
            refine lv_iload_n hx hb dX0_opposite_46 rfl (lv_at hl 4 rfl) ?_
            refine lv_iload_n hx hb dX0_opposite_47 rfl (lv_at hl 5 rfl) ?_
            refine sp_callI (n := 2) (rest := []) hC hW (metX0_digit l D ad dc _ (ad 0) _ _ (sp_sp nb sk (fun k => 4 * sp_fl nb sk k)) (i) (by omega) (by omega)) q97 q99 qs3 q30 q100 rfl rfl rfl (by decide +kernel) ⟨by decide, by decide⟩ rfl hl rfl (Nat.le_of_ble_eq_true rfl) ⟨Nat.zero_le _, Nat.zero_le _⟩ dX0_opposite_48 (fun r u H locs hp hW => ?_)
            have hp : r = nI (sp_dt (sp_sp nb sk (fun k => 4 * sp_fl nb sk k)) i) := hp
            subst hp
            have hW : sp_Wd D (sp_wX ad dc (sp_aI nb) (sp_aI sk) (sp_aI (sp_dg (sp_E nb) sk)) (g1) (M1) (nI kp) (t2) (nI 1) (nI (sp_cn nb sk)) (nI (sp_ne nb sk))) A s.heap H locs := hW
            refine lv_istore (lv' := [(6, .int (nI (sp_dt (sp_sp nb sk (fun k => 4 * sp_fl nb sk k)) i))), (5, .int (nI (sp_dt j i))), (4, .int (nI (sp_fl nb sk i))), (0, .ref (ad 0)), (1, .int (nI j)), (2, .int (nI (sp_sp nb sk (fun k => 4 * sp_fl nb sk k)))), (3, .int (nI i))]) hx hb dX0_opposite_51 hl (by decide) rfl (fun ls hl => ?_)
            refine lv_aload_n hx hb dX0_opposite_53 rfl (lv_at hl 3 rfl) ?_
            refine sp_get0 hC hW 3 (by decide) q43 rfl (v := .ref (ad 4)) rfl dX0_opposite_54 ?_
            refine lv_iload_n hx hb dX0_opposite_57 rfl (lv_at hl 6 rfl) ?_
            refine lv_iconst (v := nI 4) hx hb dX0_opposite_58 (by decide) ?_
            refine lv_iload hx hb dX0_opposite_59 (lv_at hl 2 rfl) ?_
            refine lv_imul hx hb dX0_opposite_61 ?_
            refine sp_top (y := nI (4 * (sp_fl nb sk i))) (pk_mul _ _) ?_
            refine lv_iload hx hb dX0_opposite_62 (lv_at hl 0 rfl) ?_
            refine lv_isub hx hb dX0_opposite_64 ?_
            refine sp_top (y := nI (4 * sp_fl nb sk i - sp_dt (sp_sp nb sk (fun k => 4 * sp_fl nb sk k)) i)) (pk_sub (by omega)) ?_
            refine lv_iload hx hb dX0_opposite_65 (lv_at hl 1 rfl) ?_
            refine lv_isub hx hb dX0_opposite_67 ?_
            refine sp_top (y := nI (4 * sp_fl nb sk i - sp_dt (sp_sp nb sk (fun k => 4 * sp_fl nb sk k)) i - sp_dt j i)) (pk_sub (by omega)) ?_
            refine lv_aload_n hx hb dX0_opposite_68 rfl (lv_at hl 3 rfl) ?_
            refine lv_aload_n hx hb dX0_opposite_69 rfl (lv_at hl 3 rfl) ?_
            refine sp_get0 hC hW 8 (by decide) q48 rfl (v := .int (nI (sp_ne nb sk))) rfl dX0_opposite_70 ?_
            refine lv_iload_n hx hb dX0_opposite_73 rfl (lv_at hl 6 rfl) ?_
            refine sp_callI (n := 2) (rest := [.int (nI (4 * sp_fl nb sk i - sp_dt (sp_sp nb sk (fun k => 4 * sp_fl nb sk k)) i - sp_dt j i)), .int (nI i), .ref (ad 4)]) hC hW (metX0_digit l D ad dc _ (ad 0) _ _ (sp_ne nb sk) (i) (by omega) (by omega)) q97 q99 qs3 q30 q100 rfl rfl rfl (by decide +kernel) ⟨by decide, by decide⟩ rfl hl rfl (Nat.le_of_ble_eq_true rfl) ⟨Nat.zero_le _, Nat.zero_le _⟩ dX0_opposite_74 (fun r u H locs hp hW => ?_)
            have hp : r = nI (sp_dt (sp_ne nb sk) i) := hp
            subst hp
            have hW : sp_Wd D (sp_wX ad dc (sp_aI nb) (sp_aI sk) (sp_aI (sp_dg (sp_E nb) sk)) (g1) (M1) (nI kp) (t2) (nI 1) (nI (sp_cn nb sk)) (nI (sp_ne nb sk))) A s.heap H locs := hW
            refine lv_iadd hx hb dX0_opposite_77 ?_
            refine sp_top (y := nI (4 * sp_fl nb sk i - sp_dt (sp_sp nb sk (fun k => 4 * sp_fl nb sk k)) i - sp_dt j i + (sp_dt (sp_ne nb sk) i))) (nI_add _ _) ?_
            refine sp_iast hC hW 4 3 rfl rfl (k := i) (x := nI (4 * sp_fl nb sk i - sp_dt (sp_sp nb sk (fun k => 4 * sp_fl nb sk k)) i - sp_dt j i + (sp_dt (sp_ne nb sk) i))) (by omega) (by decide) (fun q => if q = i then nI (4 * sp_fl nb sk i - sp_dt (sp_sp nb sk (fun k => 4 * sp_fl nb sk k)) i - sp_dt j i + (sp_dt (sp_ne nb sk) i)) else g1 q) (fun _ _ => rfl) dX0_opposite_78 (fun H locs hW => ?_)
            have hW : sp_Wd D (sp_wX ad dc (sp_aI nb) (sp_aI sk) (sp_aI (sp_dg (sp_E nb) sk)) (fun q => if q = i then nI (4 * sp_fl nb sk i - sp_dt (sp_sp nb sk (fun k => 4 * sp_fl nb sk k)) i - sp_dt j i + (sp_dt (sp_ne nb sk) i)) else g1 q) (M1) (nI kp) (t2) (nI 1) (nI (sp_cn nb sk)) (nI (sp_ne nb sk))) A s.heap H locs := hW
            refine lv_iinc (v := nI (i + 1)) (lv' := [(3, .int (nI (i + 1))), (6, .int (nI (sp_dt (sp_sp nb sk (fun k => 4 * sp_fl nb sk k)) i))), (5, .int (nI (sp_dt j i))), (4, .int (nI (sp_fl nb sk i))), (0, .ref (ad 0)), (1, .int (nI j)), (2, .int (nI (sp_sp nb sk (fun k => 4 * sp_fl nb sk k))))]) hx hb dX0_opposite_79 hl (k := 6) rfl (nI_1 _) (by decide) rfl (fun ls hl => ?_)
            refine lv_goto (tgt := 22) hx hb dX0_opposite_82 (by decide) ?_
            exact ih (i + 1) _ (by omega) (lt_s (fun k hk => by show (if k = i then _ else g1 k) = _; rw [if_neg (by omega)]; exact hg k hk) (by show (if i = i then _ else _) = _; rw [if_pos rfl])) _ _ _ hW (lv_sub hl [4, 5, 6, 0] rfl)
      exact loop 4 0 G2 (by omega) lt_0 _ _ _ hW (lv_sub hl [2, 3, 1, 0] rfl)
    · skip
      exfalso; omega
  · skip
    have hp1 : r = nI 0 := hp.2 hr
    subst hp1
    refine sp_if_ne (a := 0) (tgt := 10) hx hb dX0_opposite_5 (by decide) (by omega) (fun cK => ?_) (fun cK => ?_)
    · skip
      exfalso; omega
    · skip
      refine lv_iconst (v := (-1)) hx hb dX0_opposite_8 (by decide) ?_
      exact hret _ _ _ _ _ ((G, M, top, known, go, ne)) dX0_opposite_9 (rfl) (⟨sp_QV.n hr, hk⟩) hW
set_option maxHeartbeats 4000000 in
set_option maxRecDepth 100000 in
/-- groupSum -/
theorem metX0_groupSum (l : Launch) (D : va_G) (ad : Nat → Nat) (dc : Nat → ClassId) (nb sk : Nat → Nat) (hok : sp_Ok nb sk) (kp : Nat) (hkp : sp_KP nb sk kp) (G M : Nat → Int32) (top known go ne : Int32) (hk : sp_Kn nb sk known go ne) (x y : Int32) : sp_MI l D (sp_tX dc) yX0_groupSum cX0_groupSum 3 .int ({ frames := 2, cells := 0, slots := 0, locals := 49 } : Room) [.ref (ad 0), .int x, .int y] (sp_wX ad dc (sp_aI nb) (sp_aI sk) (sp_aI (sp_dg (sp_E nb) sk)) (G) (M) (nI kp) (top) (known) (go) (ne)) (S := (Nat → Int32) × (Nat → Int32) × Int32 × Int32 × Int32 × Int32) (fun r u => sp_QV (sp_isS nb sk x ∧ sp_isS nb sk y) (nI (sp_ad nb sk x.toNatClampNeg y.toNatClampNeg)) r ∧ sp_Kn nb sk u.2.2.2.1 u.2.2.2.2.1 u.2.2.2.2.2) (fun u => sp_wX ad dc (sp_aI nb) (sp_aI sk) (sp_aI (sp_dg (sp_E nb) sk)) (u.1) (u.2.1) (nI kp) (u.2.2.1) (u.2.2.2.1) (u.2.2.2.2.1) (u.2.2.2.2.2)) := by
  refine sp_entI (own := RX0) (by decide) rfl (Nat.le_of_ble_eq_true rfl) ?_
  intro pg ev s mi args below meth cd A Q ls hC hW hret hl
  obtain ⟨hx, hb, -⟩ := id hC
  have hl : lv_has ls 3 [(0, .ref (ad 0)), (1, .int x), (2, .int y)] := hl
  refine lv_aload_n hx hb dX0_groupSum_0 rfl (lv_at hl 0 rfl) ?_
  refine lv_iload_n hx hb dX0_groupSum_1 rfl (lv_at hl 1 rfl) ?_
  refine sp_callI (n := 1) (rest := []) hC hW (metX0_isStable l D ad dc nb sk hok _ _ _ _ _ _ _ _ _ (x)) q117 q119 qs6 q30 q120 rfl rfl rfl (by decide +kernel) ⟨by decide, by decide⟩ rfl hl rfl (Nat.le_of_ble_eq_true rfl) ⟨Nat.zero_le _, Nat.zero_le _⟩ dX0_groupSum_2 (fun r u H locs hp hW => ?_)
  have hW : sp_Wd D (sp_wX ad dc (sp_aI nb) (sp_aI sk) (sp_aI (sp_dg (sp_E nb) sk)) (G) (M) (nI kp) (top) (known) (go) (ne)) A s.heap H locs := hW
  by_cases hsx : sp_isS nb sk x
  · skip
    have hp1 : r = nI 1 := hp.1 hsx
    subst hp1
    refine sp_if_eq (a := 1) (tgt := 16) hx hb dX0_groupSum_5 (by decide) (by omega) (fun cK => ?_) (fun cK => ?_)
    · skip
      exfalso; omega
    · skip
      refine lv_aload_n hx hb dX0_groupSum_8 rfl (lv_at hl 0 rfl) ?_
      refine lv_iload_n hx hb dX0_groupSum_9 rfl (lv_at hl 2 rfl) ?_
      refine sp_callI (n := 1) (rest := []) hC hW (metX0_isStable l D ad dc nb sk hok _ _ _ _ _ _ _ _ _ (y)) q117 q119 qs6 q30 q120 rfl rfl rfl (by decide +kernel) ⟨by decide, by decide⟩ rfl hl rfl (Nat.le_of_ble_eq_true rfl) ⟨Nat.zero_le _, Nat.zero_le _⟩ dX0_groupSum_10 (fun r u H locs hp hW => ?_)
      have hW : sp_Wd D (sp_wX ad dc (sp_aI nb) (sp_aI sk) (sp_aI (sp_dg (sp_E nb) sk)) (G) (M) (nI kp) (top) (known) (go) (ne)) A s.heap H locs := hW
      by_cases hsy : sp_isS nb sk y
      · skip
        have hp1 : r = nI 1 := hp.1 hsy
        subst hp1
        refine sp_if_ne (a := 1) (tgt := 18) hx hb dX0_groupSum_13 (by decide) (by omega) (fun cK => ?_) (fun cK => ?_)
        · skip
          have hx2 := hsx
          have hy2 := hsy
          obtain ⟨j, hj, rfl, hsb⟩ := hsx
          obtain ⟨j2, hj2, rfl, hsb2⟩ := hsy
          refine lv_aload_n hx hb dX0_groupSum_18 rfl (lv_at hl 0 rfl) ?_
          refine lv_iload_n hx hb dX0_groupSum_19 rfl (lv_at hl 1 rfl) ?_
          refine lv_iload_n hx hb dX0_groupSum_20 rfl (lv_at hl 2 rfl) ?_
          refine sp_callI (n := 2) (rest := []) hC hW (metX0_added l D ad dc nb sk hok _ _ _ _ _ _ _ _ (j) (j2) (hj) (hj2)) q166 q168 qs12 q30 q169 rfl rfl rfl (by decide +kernel) ⟨by decide, by decide⟩ rfl hl rfl (Nat.le_of_ble_eq_true rfl) ⟨Nat.zero_le _, Nat.zero_le _⟩ dX0_groupSum_21 (fun r u H locs hp hW => ?_)
          have hp : r = nI (sp_ad nb sk j j2) := hp
          subst hp
          obtain ⟨G1, t1⟩ := u
          have hW : sp_Wd D (sp_wX ad dc (sp_aI nb) (sp_aI sk) (sp_aI (sp_dg (sp_E nb) sk)) (G1) (M) (nI kp) (t1) (known) (go) (ne)) A s.heap H locs := hW
          exact hret _ _ _ _ _ ((G1, M, t1, known, go, ne)) dX0_groupSum_24 (rfl) (⟨sp_QV.p ⟨hx2, hy2⟩ (by rw [nI_clamp (by omega), nI_clamp (by omega)]), hk⟩) hW
        · skip
          exfalso; omega
      · skip
        have hp1 : r = nI 0 := hp.2 hsy
        subst hp1
        refine sp_if_ne (a := 0) (tgt := 18) hx hb dX0_groupSum_13 (by decide) (by omega) (fun cK => ?_) (fun cK => ?_)
        · skip
          exfalso; omega
        · skip
          refine lv_iconst (v := (-1)) hx hb dX0_groupSum_16 (by decide) ?_
          exact hret _ _ _ _ _ ((G, M, top, known, go, ne)) dX0_groupSum_17 (rfl) (⟨sp_QV.n (fun q => hsy q.2), hk⟩) hW
  · skip
    have hp1 : r = nI 0 := hp.2 hsx
    subst hp1
    refine sp_if_eq (a := 0) (tgt := 16) hx hb dX0_groupSum_5 (by decide) (by omega) (fun cK => ?_) (fun cK => ?_)
    · skip
      refine lv_iconst (v := (-1)) hx hb dX0_groupSum_16 (by decide) ?_
      exact hret _ _ _ _ _ ((G, M, top, known, go, ne)) dX0_groupSum_17 (rfl) (⟨sp_QV.n (fun q => hsx q.1), hk⟩) hW
    · skip
      exfalso; omega
set_option maxHeartbeats 4000000 in
set_option maxRecDepth 100000 in
/-- recurrentOf -/
theorem metX0_recurrentOf (l : Launch) (D : va_G) (ad : Nat → Nat) (dc : Nat → ClassId) (nb sk : Nat → Nat) (hok : sp_Ok nb sk) (kp : Nat) (hkp : sp_KP nb sk kp) (G M : Nat → Int32) (top known go ne : Int32) (hk : sp_Kn nb sk known go ne) (x : Int32) : sp_MI l D (sp_tX dc) yX0_recurrentOf cX0_recurrentOf 2 .int ({ frames := 3, cells := 0, slots := 0, locals := 72 } : Room) [.ref (ad 0), .int x] (sp_wX ad dc (sp_aI nb) (sp_aI sk) (sp_aI (sp_dg (sp_E nb) sk)) (G) (M) (nI kp) (top) (known) (go) (ne)) (S := (Nat → Int32) × (Nat → Int32) × Int32 × Int32 × Int32 × Int32) (fun r u => sp_QV (sp_isS nb sk x) (nI (sp_ad nb sk x.toNatClampNeg (sp_ne nb sk))) r ∧ sp_Kn nb sk u.2.2.2.1 u.2.2.2.2.1 u.2.2.2.2.2) (fun u => sp_wX ad dc (sp_aI nb) (sp_aI sk) (sp_aI (sp_dg (sp_E nb) sk)) (u.1) (u.2.1) (nI kp) (u.2.2.1) (u.2.2.2.1) (u.2.2.2.2.1) (u.2.2.2.2.2)) := by
  refine sp_entI (own := RX0) (by decide) rfl (Nat.le_of_ble_eq_true rfl) ?_
  intro pg ev s mi args below meth cd A Q ls hC hW hret hl
  obtain ⟨hx, hb, -⟩ := id hC
  have hl : lv_has ls 2 [(0, .ref (ad 0)), (1, .int x)] := hl
  refine lv_aload_n hx hb dX0_recurrentOf_0 rfl (lv_at hl 0 rfl) ?_
  refine lv_iload_n hx hb dX0_recurrentOf_1 rfl (lv_at hl 1 rfl) ?_
  refine sp_callI (n := 1) (rest := []) hC hW (metX0_isStable l D ad dc nb sk hok _ _ _ _ _ _ _ _ _ (x)) q117 q119 qs6 q30 q120 rfl rfl rfl (by decide +kernel) ⟨by decide, by decide⟩ rfl hl rfl (Nat.le_of_ble_eq_true rfl) ⟨Nat.zero_le _, Nat.zero_le _⟩ dX0_recurrentOf_2 (fun r u H locs hp hW => ?_)
  have hW : sp_Wd D (sp_wX ad dc (sp_aI nb) (sp_aI sk) (sp_aI (sp_dg (sp_E nb) sk)) (G) (M) (nI kp) (top) (known) (go) (ne)) A s.heap H locs := hW
  by_cases hsx : sp_isS nb sk x
  · skip
    have hp1 : r = nI 1 := hp.1 hsx
    subst hp1
    refine sp_if_ne (a := 1) (tgt := 10) hx hb dX0_recurrentOf_5 (by decide) (by omega) (fun cK => ?_) (fun cK => ?_)
    · skip
      have hx2 := hsx
      obtain ⟨j, hj, rfl, hsb⟩ := hsx
      refine lv_aload_n hx hb dX0_recurrentOf_10 rfl (lv_at hl 0 rfl) ?_
      refine sp_callV (n := 0) (rest := []) hC hW (metX0_learn l D ad dc nb sk hok _ _ _ _ _ _ _ _ hk) q137 q139 qs8 q30 q140 rfl rfl rfl (by decide +kernel) ⟨by decide, by decide⟩ rfl hl rfl (Nat.le_of_ble_eq_true rfl) ⟨Nat.zero_le _, Nat.zero_le _⟩ dX0_recurrentOf_11 (fun u H locs hp hW => ?_)
      obtain ⟨G1, M1, t1⟩ := u
      have hW : sp_Wd D (sp_wX ad dc (sp_aI nb) (sp_aI sk) (sp_aI (sp_dg (sp_E nb) sk)) (G1) (M1) (nI kp) (t1) (nI 1) (nI (sp_cn nb sk)) (nI (sp_ne nb sk))) A s.heap H locs := hW
      refine lv_aload_n hx hb dX0_recurrentOf_14 rfl (lv_at hl 0 rfl) ?_
      refine lv_iload_n hx hb dX0_recurrentOf_15 rfl (lv_at hl 1 rfl) ?_
      refine lv_aload_n hx hb dX0_recurrentOf_16 rfl (lv_at hl 0 rfl) ?_
      refine sp_get0 hC hW 8 (by decide) q48 rfl (v := .int (nI (sp_ne nb sk))) rfl dX0_recurrentOf_17 ?_
      refine sp_callI (n := 2) (rest := []) hC hW (metX0_added l D ad dc nb sk hok _ _ _ _ _ _ _ _ (j) (sp_ne nb sk) (hj) (sp_ne_lt hok)) q166 q168 qs12 q30 q169 rfl rfl rfl (by decide +kernel) ⟨by decide, by decide⟩ rfl hl rfl (Nat.le_of_ble_eq_true rfl) ⟨Nat.zero_le _, Nat.zero_le _⟩ dX0_recurrentOf_20 (fun r u H locs hp hW => ?_)
      have hp : r = nI (sp_ad nb sk j (sp_ne nb sk)) := hp
      subst hp
      obtain ⟨G2, t2⟩ := u
      have hW : sp_Wd D (sp_wX ad dc (sp_aI nb) (sp_aI sk) (sp_aI (sp_dg (sp_E nb) sk)) (G2) (M1) (nI kp) (t2) (nI 1) (nI (sp_cn nb sk)) (nI (sp_ne nb sk))) A s.heap H locs := hW
      exact hret _ _ _ _ _ ((G2, M1, t2, nI 1, nI (sp_cn nb sk), nI (sp_ne nb sk))) dX0_recurrentOf_23 (rfl) (⟨sp_QV.p hx2 (by rw [nI_clamp (by omega)]), Or.inr ⟨rfl, rfl, rfl⟩⟩) hW
    · skip
      exfalso; omega
  · skip
    have hp1 : r = nI 0 := hp.2 hsx
    subst hp1
    refine sp_if_ne (a := 0) (tgt := 10) hx hb dX0_recurrentOf_5 (by decide) (by omega) (fun cK => ?_) (fun cK => ?_)
    · skip
      exfalso; omega
    · skip
      refine lv_iconst (v := (-1)) hx hb dX0_recurrentOf_8 (by decide) ?_
      exact hret _ _ _ _ _ ((G, M, top, known, go, ne)) dX0_recurrentOf_9 (rfl) (⟨sp_QV.n hsx, hk⟩) hW
set_option maxHeartbeats 4000000 in
set_option maxRecDepth 100000 in
/-- orderOf -/
theorem metX0_orderOf (l : Launch) (D : va_G) (ad : Nat → Nat) (dc : Nat → ClassId) (nb sk : Nat → Nat) (hok : sp_Ok nb sk) (kp : Nat) (hkp : sp_KP nb sk kp) (G M : Nat → Int32) (top known go ne : Int32) (hk : sp_Kn nb sk known go ne) (x : Int32) : sp_MI l D (sp_tX dc) yX0_orderOf cX0_orderOf 6 .int ({ frames := 3, cells := 0, slots := 0, locals := 73 } : Room) [.ref (ad 0), .int x] (sp_wX ad dc (sp_aI nb) (sp_aI sk) (sp_aI (sp_dg (sp_E nb) sk)) (G) (M) (nI kp) (top) (known) (go) (ne)) (S := (Nat → Int32) × (Nat → Int32) × Int32 × Int32 × Int32 × Int32) (fun r u => sp_QV (sp_isR nb sk x) (nI (sp_or nb sk x.toNatClampNeg)) r ∧ sp_Kn nb sk u.2.2.2.1 u.2.2.2.2.1 u.2.2.2.2.2) (fun u => sp_wX ad dc (sp_aI nb) (sp_aI sk) (sp_aI (sp_dg (sp_E nb) sk)) (u.1) (u.2.1) (nI kp) (u.2.2.1) (u.2.2.2.1) (u.2.2.2.2.1) (u.2.2.2.2.2)) := by
  refine sp_entI (own := RX0) (by decide) rfl (Nat.le_of_ble_eq_true rfl) ?_
  intro pg ev s mi args below meth cd A Q ls hC hW hret hl
  obtain ⟨hx, hb, -⟩ := id hC
  have hl : lv_has ls 6 [(0, .ref (ad 0)), (1, .int x)] := hl
  refine lv_aload_n hx hb dX0_orderOf_0 rfl (lv_at hl 0 rfl) ?_
  refine lv_iload_n hx hb dX0_orderOf_1 rfl (lv_at hl 1 rfl) ?_
  refine sp_callI (n := 1) (rest := []) hC hW (metX0_recurrent l D ad dc nb sk hok _ _ _ _ _ _ _ _ x) q161 q126 q127 q30 q128 rfl rfl rfl (by decide +kernel) ⟨by decide, by decide⟩ rfl hl rfl (Nat.le_of_ble_eq_true rfl) ⟨Nat.zero_le _, Nat.zero_le _⟩ dX0_orderOf_2 (fun r u H locs hp hW => ?_)
  have hW : sp_Wd D (sp_wX ad dc (sp_aI nb) (sp_aI sk) (sp_aI (sp_dg (sp_E nb) sk)) (G) (M) (nI kp) (top) (known) (go) (ne)) A s.heap H locs := hW
  by_cases hr : sp_isR nb sk x
  · skip
    have hp1 : r = nI 1 := hp.1 hr
    subst hp1
    refine sp_if_ne (a := 1) (tgt := 10) hx hb dX0_orderOf_5 (by decide) (by omega) (fun cK => ?_) (fun cK => ?_)
    · skip
      have hr2 := hr
      obtain ⟨j, hj, rfl, hrj⟩ := hr
      refine lv_aload_n hx hb dX0_orderOf_10 rfl (lv_at hl 0 rfl) ?_
      refine sp_callV (n := 0) (rest := []) hC hW (metX0_learn l D ad dc nb sk hok _ _ _ _ _ _ _ _ hk) q137 q139 qs8 q30 q140 rfl rfl rfl (by decide +kernel) ⟨by decide, by decide⟩ rfl hl rfl (Nat.le_of_ble_eq_true rfl) ⟨Nat.zero_le _, Nat.zero_le _⟩ dX0_orderOf_11 (fun u H locs hp hW => ?_)
      obtain ⟨G1, M1, t1⟩ := u
      have hW : sp_Wd D (sp_wX ad dc (sp_aI nb) (sp_aI sk) (sp_aI (sp_dg (sp_E nb) sk)) (G1) (M1) (nI kp) (t1) (nI 1) (nI (sp_cn nb sk)) (nI (sp_ne nb sk))) A s.heap H locs := hW
      obtain ⟨o, ho⟩ := sp_Or.ex (s := j) (sp_det hok).2.2.2.2 (sp_LaK_cn hok j)
      have hcn := sp_cn625 hok
      have hcn1 := (sp_det hok).2.2.2.2
      obtain ⟨m0, hm0⟩ := ho.dvd.mp (sp_LaK_cn hok j)
      have hm1 : 1 ≤ m0 := by
        rcases Nat.eq_zero_or_pos m0 with q | q
        · rw [q] at hm0; omega
        · exact q
      have hOI0 : sp_OI nb sk j o (sp_cn nb sk) (sp_cn nb sk) 2 := ⟨ho, hcn1, Nat.le_refl _, Nat.dvd_refl _, ⟨m0, hm0, ⟨o, by rw [hm0]; exact Nat.mul_comm o m0⟩, hm1⟩, fun q h1 h2 => by omega⟩
      refine lv_aload_n hx hb dX0_orderOf_14 rfl (lv_at hl 0 rfl) ?_
      refine sp_get0 hC hW 7 (by decide) q47 rfl (v := .int (nI (sp_cn nb sk))) rfl dX0_orderOf_15 ?_
      refine lv_istore_n (lv' := [(2, .int (nI (sp_cn nb sk))), (0, .ref (ad 0)), (1, .int (nI j))]) hx hb dX0_orderOf_18 rfl hl (by decide) rfl (fun ls hl => ?_)
      refine lv_aload_n hx hb dX0_orderOf_19 rfl (lv_at hl 1 rfl) ?_
      refine sp_get0 hC hW 7 (by decide) q47 rfl (v := .int (nI (sp_cn nb sk))) rfl dX0_orderOf_20 ?_
      refine lv_istore_n (lv' := [(3, .int (nI (sp_cn nb sk))), (2, .int (nI (sp_cn nb sk))), (0, .ref (ad 0)), (1, .int (nI j))]) hx hb dX0_orderOf_23 rfl hl (by decide) rfl (fun ls hl => ?_)
      refine lv_iconst (v := nI 2) hx hb dX0_orderOf_24 (by decide) ?_
      refine lv_istore (lv' := [(4, .int (nI 2)), (3, .int (nI (sp_cn nb sk))), (2, .int (nI (sp_cn nb sk))), (0, .ref (ad 0)), (1, .int (nI j))]) hx hb dX0_orderOf_25 hl (by decide) rfl (fun ls hl => ?_)
      have lo : ∀ (nO : Nat) (Rr : Nat) (Nn : Nat) (pp : Nat) (g1 : Nat → Int32) (tt : Int32), 626 ≤ pp + nO → sp_OI nb sk j o Rr Nn pp → Rr ≤ 625 → Nn ≤ 625 → pp ≤ 626 → ∀ (H : Heap) (locs : List Loc) (ls : Array Slot), sp_Wd D (sp_wX ad dc (sp_aI nb) (sp_aI sk) (sp_aI (sp_dg (sp_E nb) sk)) (g1) (M1) (nI kp) (tt) (nI 1) (nI (sp_cn nb sk)) (nI (sp_ne nb sk))) A s.heap H locs → lv_has ls 6 [(0, .ref (ad 0)), (1, .int (nI j)), (2, .int (nI Rr)), (3, .int (nI Nn)), (4, .int (nI pp))] → W pg l ev ({ frames := 3, cells := 0, slots := 0, locals := 73 } : Room) s mi args below meth cd H locs 0 0 Q (F0 mi 27 ls []) := by
        intro nO
        induction nO with
        | zero =>
          intro Rr Nn pp g1 tt hm_nO hOI hRb hNb hpb H locs ls hW hl
          have hp2 := hOI.2.2.1
          refine lv_iload hx hb dX0_orderOf_27 (lv_at hl 4 rfl) ?_
          refine lv_iload_n hx hb dX0_orderOf_29 rfl (lv_at hl 3 rfl) ?_
          refine sp_icmp_gt (a := pp) (b := Nn) (tgt := 79) hx hb dX0_orderOf_30 (by decide) (by omega) (by omega) (fun co => ?_) (fun co => ?_)
          · skip
            refine lv_iload_n hx hb dX0_orderOf_79 rfl (lv_at hl 2 rfl) ?_
            have hfin := hOI.end (by omega)
            subst hfin
            exact hret _ _ _ _ _ ((g1, M1, tt, nI 1, nI (sp_cn nb sk), nI (sp_ne nb sk))) dX0_orderOf_80 (rfl) (⟨sp_QV.p hr2 (by rw [nI_clamp (by omega), sp_or_eq ho]), Or.inr ⟨rfl, rfl, rfl⟩⟩) hW
          · skip
            exfalso; omega
        | succ nO ihO =>
          intro Rr Nn pp g1 tt hm_nO hOI hRb hNb hpb H locs ls hW hl
          have hp2 := hOI.2.2.1
          refine lv_iload hx hb dX0_orderOf_27 (lv_at hl 4 rfl) ?_
          refine lv_iload_n hx hb dX0_orderOf_29 rfl (lv_at hl 3 rfl) ?_
          refine sp_icmp_gt (a := pp) (b := Nn) (tgt := 79) hx hb dX0_orderOf_30 (by decide) (by omega) (by omega) (fun co => ?_) (fun co => ?_)
          · skip
            refine lv_iload_n hx hb dX0_orderOf_79 rfl (lv_at hl 2 rfl) ?_
            have hfin := hOI.end (by omega)
            subst hfin
            exact hret _ _ _ _ _ ((g1, M1, tt, nI 1, nI (sp_cn nb sk), nI (sp_ne nb sk))) dX0_orderOf_80 (rfl) (⟨sp_QV.p hr2 (by rw [nI_clamp (by omega), sp_or_eq ho]), Or.inr ⟨rfl, rfl, rfl⟩⟩) hW
          · skip
            have li : ∀ (nI_ : Nat) (Rr : Nat) (Nn : Nat) (g1 : Nat → Int32) (tt : Int32), Nn ≤ nI_ → sp_OI nb sk j o Rr Nn pp → Rr ≤ 625 → Nn ≤ 625 → ∀ (H : Heap) (locs : List Loc) (ls : Array Slot), sp_Wd D (sp_wX ad dc (sp_aI nb) (sp_aI sk) (sp_aI (sp_dg (sp_E nb) sk)) (g1) (M1) (nI kp) (tt) (nI 1) (nI (sp_cn nb sk)) (nI (sp_ne nb sk))) A s.heap H locs → lv_has ls 6 [(0, .ref (ad 0)), (1, .int (nI j)), (2, .int (nI Rr)), (3, .int (nI Nn)), (4, .int (nI pp))] → W pg l ev ({ frames := 3, cells := 0, slots := 0, locals := 73 } : Room) s mi args below meth cd H locs 0 0 Q (F0 mi 33 ls []) := by
              intro nI_
              induction nI_ with
              | zero =>
                intro Rr Nn g1 tt hm_nI_ hOI hRb hNb H locs ls hW hl
                have hz := hOI.2.1
                exfalso; omega
              | succ nI_ ihI =>
                intro Rr Nn g1 tt hm_nI_ hOI hRb hNb H locs ls hW hl
                have hp2 := hOI.2.2.1
                refine lv_iload_n hx hb dX0_orderOf_33 rfl (lv_at hl 3 rfl) ?_
                refine lv_iload hx hb dX0_orderOf_34 (lv_at hl 4 rfl) ?_
                refine lv_irem hx hb dX0_orderOf_36 (nI_ne0 (by omega) (by omega)) ?_
                refine sp_top (y := nI (Nn % pp)) (pk_rem (by omega) (by omega) (by omega)) ?_
                have hml : Nn % pp < pp := Nat.mod_lt _ (by omega)
                refine sp_if_ne (a := Nn % pp) (tgt := 73) hx hb dX0_orderOf_37 (by decide) (by omega) (fun cr => ?_) (fun cr => ?_)
                · skip
                  refine lv_iinc (v := nI (pp + 1)) (lv' := [(4, .int (nI (pp + 1))), (0, .ref (ad 0)), (1, .int (nI j)), (2, .int (nI Rr)), (3, .int (nI Nn))]) hx hb dX0_orderOf_73 hl (k := 4) rfl (nI_1 _) (by decide) rfl (fun ls hl => ?_)
                  refine lv_goto (tgt := 27) hx hb dX0_orderOf_76 (by decide) ?_
                  exact ihO Rr Nn (pp + 1) g1 tt (by omega) (hOI.next cr) hRb hNb (by omega) _ _ _ hW (lv_sub hl [1, 2, 3, 4, 0] rfl)
                · skip
                  obtain ⟨dv1, dv2, dv3, dv4⟩ := hOI.div cr
                  have hRd : Rr / pp ≤ Rr := Nat.div_le_self _ _
                  refine lv_iload_n hx hb dX0_orderOf_40 rfl (lv_at hl 3 rfl) ?_
                  refine lv_iload hx hb dX0_orderOf_41 (lv_at hl 4 rfl) ?_
                  refine lv_idiv hx hb dX0_orderOf_43 (nI_ne0 (by omega) (by omega)) ?_
                  refine sp_top (y := nI (Nn / pp)) (pk_div (by omega) (by omega) (by omega)) ?_
                  refine lv_istore_n (lv' := [(3, .int (nI (Nn / pp))), (0, .ref (ad 0)), (1, .int (nI j)), (2, .int (nI Rr)), (4, .int (nI pp))]) hx hb dX0_orderOf_44 rfl hl (by decide) rfl (fun ls hl => ?_)
                  refine lv_aload_n hx hb dX0_orderOf_45 rfl (lv_at hl 1 rfl) ?_
                  refine lv_iload_n hx hb dX0_orderOf_46 rfl (lv_at hl 2 rfl) ?_
                  refine lv_iload_n hx hb dX0_orderOf_47 rfl (lv_at hl 3 rfl) ?_
                  refine lv_iload hx hb dX0_orderOf_48 (lv_at hl 4 rfl) ?_
                  refine lv_idiv hx hb dX0_orderOf_50 (nI_ne0 (by omega) (by omega)) ?_
                  refine sp_top (y := nI (Rr / pp)) (pk_div (by omega) (by omega) (by omega)) ?_
                  refine sp_callI (n := 2) (rest := []) hC hW (metX0_timesState l D ad dc nb sk hok _ _ _ _ _ _ _ j (Rr / pp) (sp_ne nb sk) hj (by omega) (sp_ne_lt hok)) q174 q176 qs13 q30 q177 rfl rfl rfl (by decide +kernel) ⟨by decide, by decide⟩ rfl hl rfl (Nat.le_of_ble_eq_true rfl) ⟨Nat.zero_le _, Nat.zero_le _⟩ dX0_orderOf_51 (fun r u H locs hp hW => ?_)
                  have hp : r = nI (sp_tm nb sk j (Rr / pp)) := hp
                  subst hp
                  obtain ⟨G2, t2⟩ := u
                  have hW : sp_Wd D (sp_wX ad dc (sp_aI nb) (sp_aI sk) (sp_aI (sp_dg (sp_E nb) sk)) (G2) (M1) (nI kp) (t2) (nI 1) (nI (sp_cn nb sk)) (nI (sp_ne nb sk))) A s.heap H locs := hW
                  have htm : sp_tm nb sk j (Rr / pp) < 4096 := sp_ad_lt hok _ _
                  have hnel := sp_ne_lt hok
                  refine lv_istore (lv' := [(5, .int (nI (sp_tm nb sk j (Rr / pp)))), (3, .int (nI (Nn / pp))), (0, .ref (ad 0)), (1, .int (nI j)), (2, .int (nI Rr)), (4, .int (nI pp))]) hx hb dX0_orderOf_54 hl (by decide) rfl (fun ls hl => ?_)
                  refine lv_iload hx hb dX0_orderOf_56 (lv_at hl 0 rfl) ?_
                  refine lv_aload_n hx hb dX0_orderOf_58 rfl (lv_at hl 2 rfl) ?_
                  refine sp_get0 hC hW 8 (by decide) q48 rfl (v := .int (nI (sp_ne nb sk))) rfl dX0_orderOf_59 ?_
                  refine sp_icmp_ne (a := sp_tm nb sk j (Rr / pp)) (b := sp_ne nb sk) (tgt := 70) hx hb dX0_orderOf_62 (by decide) (by omega) (by omega) (fun ctm => ?_) (fun ctm => ?_)
                  · skip
                    refine lv_goto (tgt := 33) hx hb dX0_orderOf_70 (by decide) ?_
                    exact ihI Rr (Nn / pp) G2 t2 (by omega) (dv2 (fun q => ctm ((sp_tm_iff hok j _).mpr q))) hRb (by omega) _ _ _ hW (lv_sub hl [2, 3, 4, 1, 5] rfl)
                  · skip
                    refine lv_iload_n hx hb dX0_orderOf_65 rfl (lv_at hl 4 rfl) ?_
                    refine lv_iload hx hb dX0_orderOf_66 (lv_at hl 5 rfl) ?_
                    refine lv_idiv hx hb dX0_orderOf_68 (nI_ne0 (by omega) (by omega)) ?_
                    refine sp_top (y := nI (Rr / pp)) (pk_div (by omega) (by omega) (by omega)) ?_
                    refine lv_istore_n (lv' := [(2, .int (nI (Rr / pp))), (5, .int (nI (sp_tm nb sk j (Rr / pp)))), (3, .int (nI (Nn / pp))), (0, .ref (ad 0)), (1, .int (nI j)), (4, .int (nI pp))]) hx hb dX0_orderOf_69 rfl hl (by decide) rfl (fun ls hl => ?_)
                    refine lv_goto (tgt := 33) hx hb dX0_orderOf_70 (by decide) ?_
                    exact ihI (Rr / pp) (Nn / pp) G2 t2 (by omega) (dv1 ((sp_tm_iff hok j _).mp ctm)) (by omega) (by omega) _ _ _ hW (lv_sub hl [3, 4, 0, 2, 5] rfl)
            exact li 1000 Rr Nn g1 tt (by omega) hOI hRb hNb _ _ _ hW (lv_sub hl [0, 1, 2, 3, 4] rfl)
      exact lo 1000 _ _ 2 G1 t1 (by omega) hOI0 hcn hcn (by omega) _ _ _ hW (lv_sub hl [3, 4, 2, 1, 0] rfl)
    · skip
      exfalso; omega
  · skip
    have hp1 : r = nI 0 := hp.2 hr
    subst hp1
    refine sp_if_ne (a := 0) (tgt := 10) hx hb dX0_orderOf_5 (by decide) (by omega) (fun cK => ?_) (fun cK => ?_)
    · skip
      exfalso; omega
    · skip
      refine lv_iconst (v := (-1)) hx hb dX0_orderOf_8 (by decide) ?_
      exact hret _ _ _ _ _ ((G, M, top, known, go, ne)) dX0_orderOf_9 (rfl) (⟨sp_QV.n hr, hk⟩) hW
end
section
set_option maxRecDepth 100000
set_option maxHeartbeats 4000000 in
set_option maxRecDepth 100000 in
/-- in -/
theorem metX1_in (l : Launch) (D : va_G) (ad : Nat → Nat) (dc : Nat → ClassId) (tys : List (ClassId × FieldType)) (h : Nat) (fs : List Value) (w : va_W) (x b : Nat) (hx0 : x < 2 ^ 31) (hb0 : b < 32) : sp_MI l D (tys) yX1_in cX1_in 3 .boolean ({ frames := 0, cells := 0, slots := 0, locals := 0 } : Room) [.ref (h), .int (nI x), .int (nI b)] ((h, .inr (1, fs)) :: w) (S := Unit) (fun r _ => sp_QB (x / 2 ^ b % 2 = 1) r) (fun _ => (h, .inr (1, fs)) :: w) := by
  refine sp_entI (own := RX1) (by decide) rfl (Nat.le_of_ble_eq_true rfl) ?_
  intro pg ev s mi args below meth cd A Q ls hC hW hret hl
  obtain ⟨hx, hb, -⟩ := id hC
  have hl : lv_has ls 3 [(0, .ref (h)), (1, .int (nI x)), (2, .int (nI b))] := hl
  refine lv_iload_n hx hb dX1_in_0 rfl (lv_at hl 1 rfl) ?_
  refine lv_iload_n hx hb dX1_in_1 rfl (lv_at hl 2 rfl) ?_
  refine lv_ishr hx hb dX1_in_2 ?_
  refine lv_iconst (v := nI 1) hx hb dX1_in_3 (by decide) ?_
  refine lv_iand hx hb dX1_in_4 ?_
  refine sp_top (y := nI (x / 2 ^ b % 2)) (sp_bit hx0 hb0) ?_
  have hml : x / 2 ^ b % 2 < 2 := Nat.mod_lt _ (by decide)
  refine lv_iconst (v := nI 1) hx hb dX1_in_5 (by decide) ?_
  refine sp_icmp_ne (a := x / 2 ^ b % 2) (b := 1) (tgt := 13) hx hb dX1_in_6 (by decide) (by omega) (by omega) (fun c1 => ?_) (fun c1 => ?_)
  · skip
    refine lv_iconst (v := nI 0) hx hb dX1_in_13 (by decide) ?_
    exact hret _ _ _ _ _ (()) dX1_in_14 (rfl) (sp_QB.n c1) hW
  · skip
    refine lv_iconst (v := nI 1) hx hb dX1_in_9 (by decide) ?_
    refine lv_goto (tgt := 14) hx hb dX1_in_10 (by decide) ?_
    exact hret _ _ _ _ _ (()) dX1_in_14 (rfl) (sp_QB.p c1) hW
set_option maxHeartbeats 4000000 in
set_option maxRecDepth 100000 in
/-- vanish -/
theorem metX1_vanish (l : Launch) (D : va_G) (ad : Nat → Nat) (dc : Nat → ClassId) (N S G Wk F : Nat → Int32) (known top : Int32) : sp_MV l D (sp_tY dc) yX1_vanish cX1_vanish 2 ({ frames := 0, cells := 0, slots := 0, locals := 0 } : Room) [.ref (ad 0)] (sp_wY ad dc (N) (S) (G) (Wk) (F) (known) (top)) (S := Unit) (fun _ => True) (fun _ => sp_wY ad dc (N) (S) (sp_aI (sp_dt 0)) (Wk) (F) (nI 0) (top)) := by
  refine sp_entV (own := RX1) (by decide) rfl (Nat.le_of_ble_eq_true rfl) ?_
  intro pg ev s mi args below meth cd A Q ls hC hW hret hl
  obtain ⟨hx, hb, -⟩ := id hC
  have hl : lv_has ls 2 [(0, .ref (ad 0))] := hl
  refine lv_iconst (v := nI 0) hx hb dX1_vanish_0 (by decide) ?_
  refine lv_istore_n (lv' := [(1, .int (nI 0)), (0, .ref (ad 0))]) hx hb dX1_vanish_1 rfl hl (by decide) rfl (fun ls hl => ?_)
  have loop : ∀ (n i : Nat) (g1 : Nat → Int32), i + n = 4 → (∀ k, k < i → g1 k = nI 0) → ∀ (H : Heap) (locs : List Loc) (ls : Array Slot), sp_Wd D (sp_wY ad dc (N) (S) (g1) (Wk) (F) (known) (top)) A s.heap H locs → lv_has ls 2 [(0, .ref (ad 0)), (1, .int (nI i))] → W pg l ev ({ frames := 0, cells := 0, slots := 0, locals := 0 } : Room) s mi args below meth cd H locs 0 0 Q (F0 mi 2 ls []) := by
    intro n
    induction n with
    | zero =>
      intro i g1 hi_i hg H locs ls hW hl
      refine lv_iload_n hx hb dX1_vanish_2 rfl (lv_at hl 1 rfl) ?_
      refine lv_iconst (v := nI 4) hx hb dX1_vanish_3 (by decide) ?_
      refine sp_icmp_ge (a := i) (b := 4) (tgt := 20) hx hb dX1_vanish_4 (by decide) (by omega) (by omega) (fun c => ?_) (fun c => ?_)
      · skip
        refine lv_aload_n hx hb dX1_vanish_20 rfl (lv_at hl 0 rfl) ?_
        refine lv_iconst (v := nI 0) hx hb dX1_vanish_21 (by decide) ?_
        have hW := hW.arr 3 rfl (sp_aI (sp_dt 0)) (fun j hj => by rw [hg j (by omega)]; rcases sp_lt4 hj with rfl | rfl | rfl | rfl <;> rfl)
        have hW : sp_Wd D (sp_wY ad dc (N) (S) (sp_aI (sp_dt 0)) (Wk) (F) (known) (top)) A s.heap H locs := hW
        refine sp_put1 hC hW 5 (by decide) q193 rfl rfl (ty := .boolean) (v := .int (nI 0)) (by decide +kernel) (by decide) (by decide) (Nat.le_of_ble_eq_true rfl) dX1_vanish_22 (fun H locs hW => ?_)
        have hW : sp_Wd D (sp_wY ad dc (N) (S) (sp_aI (sp_dt 0)) (Wk) (F) (nI 0) (top)) A s.heap H locs := hW
        exact hret _ _ _ _ (()) dX1_vanish_25 (trivial) hW
      · skip
        exfalso; omega
    | succ n ih =>
      intro i g1 hi_i hg H locs ls hW hl
      refine lv_iload_n hx hb dX1_vanish_2 rfl (lv_at hl 1 rfl) ?_
      refine lv_iconst (v := nI 4) hx hb dX1_vanish_3 (by decide) ?_
      refine sp_icmp_ge (a := i) (b := 4) (tgt := 20) hx hb dX1_vanish_4 (by decide) (by omega) (by omega) (fun c => ?_) (fun c => ?_)
      · skip
        exfalso; omega
      · skip
        refine lv_aload_n hx hb dX1_vanish_7 rfl (lv_at hl 0 rfl) ?_
        refine sp_get1 hC hW 2 (by decide) q190 rfl (v := .ref (ad 3)) rfl dX1_vanish_8 ?_
        refine lv_iload_n hx hb dX1_vanish_11 rfl (lv_at hl 1 rfl) ?_
        refine lv_iconst (v := nI 0) hx hb dX1_vanish_12 (by decide) ?_
        refine sp_iast hC hW 3 2 rfl rfl (k := i) (x := nI 0) (by omega) (by decide) (fun j => if j = i then nI 0 else g1 j) (fun _ _ => rfl) dX1_vanish_13 (fun H locs hW => ?_)
        have hW : sp_Wd D (sp_wY ad dc (N) (S) (fun j => if j = i then nI 0 else g1 j) (Wk) (F) (known) (top)) A s.heap H locs := hW
        refine lv_iinc (v := nI (i + 1)) (lv' := [(1, .int (nI (i + 1))), (0, .ref (ad 0))]) hx hb dX1_vanish_14 hl (k := 1) rfl (nI_1 _) (by decide) rfl (fun ls hl => ?_)
        refine lv_goto (tgt := 2) hx hb dX1_vanish_17 (by decide) ?_
        exact ih (i + 1) _ (by omega) (lt_s (fun k hk => by show (if k = i then _ else g1 k) = _; rw [if_neg (by omega)]; exact hg k hk) (by show (if i = i then _ else _) = _; rw [if_pos rfl])) _ _ _ hW (lv_sub hl [1, 0] rfl)
  exact loop 4 0 G (by omega) lt_0 _ _ _ hW (lv_sub hl [1, 0] rfl)
set_option maxHeartbeats 4000000 in
set_option maxRecDepth 100000 in
/-- degreeOf -/
theorem metX1_degreeOf (l : Launch) (D : va_G) (ad : Nat → Nat) (dc : Nat → ClassId) (nb sk : Nat → Nat) (hok : sp_Ok nb sk) (G Wk F : Nat → Int32) (known top : Int32) (a : Nat) (ha : a < 4) : sp_MI l D (sp_tY dc) yX1_degreeOf cX1_degreeOf 4 .int ({ frames := 1, cells := 0, slots := 0, locals := 22 } : Room) [.ref (ad 0), .int (nI a)] (sp_wY ad dc (sp_aI nb) (sp_aI sk) (G) (Wk) (F) (known) (top)) (S := Unit) (fun r _ => r = nI (sp_dg (sp_E nb) sk a)) (fun _ => sp_wY ad dc (sp_aI nb) (sp_aI sk) (G) (Wk) (F) (known) (top)) := by
  refine sp_entI (own := RX1) (by decide) rfl (Nat.le_of_ble_eq_true rfl) ?_
  intro pg ev s mi args below meth cd A Q ls hC hW hret hl
  obtain ⟨hx, hb, -⟩ := id hC
  have hl : lv_has ls 4 [(0, .ref (ad 0)), (1, .int (nI a))] := hl
  have hna := (hok.1 a ha).1
  refine lv_aload_n hx hb dX1_degreeOf_0 rfl (lv_at hl 0 rfl) ?_
  refine sp_get1 hC hW 1 (by decide) q189 rfl (v := .ref (ad 2)) rfl dX1_degreeOf_1 ?_
  refine lv_iload_n hx hb dX1_degreeOf_4 rfl (lv_at hl 1 rfl) ?_
  refine sp_iald hC hW 2 1 rfl rfl (k := a) (v := nI (sk a)) (by omega) (by decide) rfl dX1_degreeOf_5 ?_
  refine lv_istore_n (lv' := [(2, .int (nI (sk a))), (0, .ref (ad 0)), (1, .int (nI a))]) hx hb dX1_degreeOf_6 rfl hl (by decide) rfl (fun ls hl => ?_)
  refine lv_iconst (v := nI 0) hx hb dX1_degreeOf_7 (by decide) ?_
  refine lv_istore_n (lv' := [(3, .int (nI 0)), (2, .int (nI (sk a))), (0, .ref (ad 0)), (1, .int (nI a))]) hx hb dX1_degreeOf_8 rfl hl (by decide) rfl (fun ls hl => ?_)
  have loop : ∀ (n j : Nat) , j + n = 4 → ∀ (H : Heap) (locs : List Loc) (ls : Array Slot), sp_Wd D (sp_wY ad dc (sp_aI nb) (sp_aI sk) (G) (Wk) (F) (known) (top)) A s.heap H locs → lv_has ls 4 [(0, .ref (ad 0)), (1, .int (nI a)), (2, .int (nI (sp_dp nb sk a j))), (3, .int (nI j))] → W pg l ev ({ frames := 1, cells := 0, slots := 0, locals := 22 } : Room) s mi args below meth cd H locs 0 0 Q (F0 mi 9 ls []) := by
    intro n
    induction n with
    | zero =>
      intro j hi_j H locs ls hW hl
      refine lv_iload_n hx hb dX1_degreeOf_9 rfl (lv_at hl 3 rfl) ?_
      refine lv_iconst (v := nI 4) hx hb dX1_degreeOf_10 (by decide) ?_
      refine sp_icmp_ge (a := j) (b := 4) (tgt := 37) hx hb dX1_degreeOf_11 (by decide) (by omega) (by omega) (fun c => ?_) (fun c => ?_)
      · skip
        have e4 : j = 4 := by omega
        subst e4
        refine lv_iload_n hx hb dX1_degreeOf_37 rfl (lv_at hl 2 rfl) ?_
        exact hret _ _ _ _ _ (()) dX1_degreeOf_38 (rfl) (congrArg nI (sp_dp4 nb sk a)) hW
      · skip
        exfalso; omega
    | succ n ih =>
      intro j hi_j H locs ls hW hl
      refine lv_iload_n hx hb dX1_degreeOf_9 rfl (lv_at hl 3 rfl) ?_
      refine lv_iconst (v := nI 4) hx hb dX1_degreeOf_10 (by decide) ?_
      refine sp_icmp_ge (a := j) (b := 4) (tgt := 37) hx hb dX1_degreeOf_11 (by decide) (by omega) (by omega) (fun c => ?_) (fun c => ?_)
      · skip
        exfalso; omega
      · skip
        refine lv_aload_n hx hb dX1_degreeOf_14 rfl (lv_at hl 0 rfl) ?_
        refine lv_aload_n hx hb dX1_degreeOf_15 rfl (lv_at hl 0 rfl) ?_
        refine sp_get1 hC hW 0 (by decide) q188 rfl (v := .ref (ad 1)) rfl dX1_degreeOf_16 ?_
        refine lv_iload_n hx hb dX1_degreeOf_19 rfl (lv_at hl 1 rfl) ?_
        refine sp_iald hC hW 1 0 rfl rfl (k := a) (v := nI (nb a)) (by omega) (by decide) rfl dX1_degreeOf_20 ?_
        refine lv_iload_n hx hb dX1_degreeOf_21 rfl (lv_at hl 3 rfl) ?_
        refine sp_callI (n := 2) (rest := []) hC hW (metX1_in l D ad dc _ (ad 0) _ _ (nb a) j (by omega) (by omega)) q239 q241 qs18 q31 q242 rfl rfl rfl (by decide +kernel) ⟨by decide, by decide⟩ rfl hl rfl (Nat.le_of_ble_eq_true rfl) ⟨Nat.zero_le _, Nat.zero_le _⟩ dX1_degreeOf_22 (fun r u H locs hp hW => ?_)
        have hW : sp_Wd D (sp_wY ad dc (sp_aI nb) (sp_aI sk) (G) (Wk) (F) (known) (top)) A s.heap H locs := hW
        by_cases hbit : nb a / 2 ^ j % 2 = 1
        · skip
          have hp1 : r = nI 1 := hp.1 hbit
          subst hp1
          refine sp_if_eq (a := 1) (tgt := 31) hx hb dX1_degreeOf_25 (by decide) (by omega) (fun cK => ?_) (fun cK => ?_)
          · skip
            exfalso; omega
          · skip
            refine lv_iinc (v := nI (sp_dp nb sk a j + 1)) (lv' := [(2, .int (nI (sp_dp nb sk a j + 1))), (0, .ref (ad 0)), (1, .int (nI a)), (3, .int (nI j))]) hx hb dX1_degreeOf_28 hl (k := 2) rfl (nI_1 _) (by decide) rfl (fun ls hl => ?_)
            refine lv_iinc (v := nI (j + 1)) (lv' := [(3, .int (nI (j + 1))), (2, .int (nI (sp_dp nb sk a j + 1))), (0, .ref (ad 0)), (1, .int (nI a))]) hx hb dX1_degreeOf_31 hl (k := 3) rfl (nI_1 _) (by decide) rfl (fun ls hl => ?_)
            refine lv_goto (tgt := 9) hx hb dX1_degreeOf_34 (by decide) ?_
            have hE : sp_dp nb sk a (j + 1) = sp_dp nb sk a j + 1 := congrArg (sp_dp nb sk a j + ·) hbit
            exact ih (j + 1) (by omega) _ _ _ hW (by rw [hE]; exact lv_sub hl [2, 3, 1, 0] rfl)
        · skip
          have hp1 : r = nI 0 := hp.2 hbit
          subst hp1
          refine sp_if_eq (a := 0) (tgt := 31) hx hb dX1_degreeOf_25 (by decide) (by omega) (fun cK => ?_) (fun cK => ?_)
          · skip
            refine lv_iinc (v := nI (j + 1)) (lv' := [(3, .int (nI (j + 1))), (0, .ref (ad 0)), (1, .int (nI a)), (2, .int (nI (sp_dp nb sk a j)))]) hx hb dX1_degreeOf_31 hl (k := 3) rfl (nI_1 _) (by decide) rfl (fun ls hl => ?_)
            refine lv_goto (tgt := 9) hx hb dX1_degreeOf_34 (by decide) ?_
            have hE0 := sp_E1 nb a j
            have hE : sp_dp nb sk a (j + 1) = sp_dp nb sk a j := by
              show sp_dp nb sk a j + sp_E nb a j = _
              have hbit : ¬ sp_E nb a j = 1 := hbit
              omega
            exact ih (j + 1) (by omega) _ _ _ hW (by rw [hE]; exact lv_sub hl [1, 2, 3, 0] rfl)
          · skip
            exfalso; omega
  exact loop 4 0 (by omega) _ _ _ hW (lv_sub hl [2, 3, 1, 0] rfl)
set_option maxHeartbeats 4000000 in
set_option maxRecDepth 100000 in
/-- topple -/
theorem metX1_topple (l : Launch) (D : va_G) (ad : Nat → Nat) (dc : Nat → ClassId) (nb sk : Nat → Nat) (hok : sp_Ok nb sk) (G F : Nat → Int32) (known : Int32) (c0 : Nat → Nat) (t a : Nat) (ha : a < 4) (hle : sp_dg (sp_E nb) sk a ≤ c0 a) : sp_MV l D (sp_tY dc) yX1_topple cX1_topple 3 ({ frames := 2, cells := 0, slots := 0, locals := 45 } : Room) [.ref (ad 0), .int (nI a)] (sp_wY ad dc (sp_aI nb) (sp_aI sk) (G) (sp_aI c0) (F) (known) (nI t)) (S := Unit) (fun _ => True) (fun _ => sp_wY ad dc (sp_aI nb) (sp_aI sk) (G) (sp_aI (sp_fire (sp_E nb) sk a 1 c0)) (F) (known) (nI (t + 1))) := by
  refine sp_entV (own := RX1) (by decide) rfl (Nat.le_of_ble_eq_true rfl) ?_
  intro pg ev s mi args below meth cd A Q ls hC hW hret hl
  obtain ⟨hx, hb, -⟩ := id hC
  have hl : lv_has ls 3 [(0, .ref (ad 0)), (1, .int (nI a))] := hl
  have hna := (hok.1 a ha).1
  refine lv_aload_n hx hb dX1_topple_0 rfl (lv_at hl 0 rfl) ?_
  refine sp_get1 hC hW 3 (by decide) q191 rfl (v := .ref (ad 4)) rfl dX1_topple_1 ?_
  refine lv_iload_n hx hb dX1_topple_4 rfl (lv_at hl 1 rfl) ?_
  refine lv_dup2_11 hx hb dX1_topple_5 rfl rfl ?_
  refine sp_iald hC hW 4 3 rfl rfl (k := a) (v := nI (c0 a)) (by omega) (by decide) rfl dX1_topple_6 ?_
  refine lv_aload_n hx hb dX1_topple_7 rfl (lv_at hl 0 rfl) ?_
  refine lv_iload_n hx hb dX1_topple_8 rfl (lv_at hl 1 rfl) ?_
  refine sp_callI (n := 1) (rest := [.int (nI (c0 a)), .int (nI a), .ref (ad 4)]) hC hW (metX1_degreeOf l D ad dc nb sk hok _ _ _ _ _ (a) (by omega)) q235 q237 qs17 q31 q238 rfl rfl rfl (by decide +kernel) ⟨by decide, by decide⟩ rfl hl rfl (Nat.le_of_ble_eq_true rfl) ⟨Nat.zero_le _, Nat.zero_le _⟩ dX1_topple_9 (fun r u H locs hp hW => ?_)
  have hp : r = nI (sp_dg (sp_E nb) sk a) := hp
  subst hp
  have hW : sp_Wd D (sp_wY ad dc (sp_aI nb) (sp_aI sk) (G) (sp_aI c0) (F) (known) (nI t)) A s.heap H locs := hW
  refine lv_isub hx hb dX1_topple_12 ?_
  refine sp_top (y := nI (c0 a - sp_dg (sp_E nb) sk a)) (pk_sub hle) ?_
  refine sp_iast hC hW 4 3 rfl rfl (k := a) (x := nI (c0 a - sp_dg (sp_E nb) sk a)) (by omega) (by decide) (sp_aI (sp_up (c0) (a) (c0 a - sp_dg (sp_E nb) sk a))) (sp_aup) dX1_topple_13 (fun H locs hW => ?_)
  have hW : sp_Wd D (sp_wY ad dc (sp_aI nb) (sp_aI sk) (G) (sp_aI (sp_up (c0) (a) (c0 a - sp_dg (sp_E nb) sk a))) (F) (known) (nI t)) A s.heap H locs := hW
  refine lv_iconst (v := nI 0) hx hb dX1_topple_14 (by decide) ?_
  refine lv_istore_n (lv' := [(2, .int (nI 0)), (0, .ref (ad 0)), (1, .int (nI a))]) hx hb dX1_topple_15 rfl hl (by decide) rfl (fun ls hl => ?_)
  have loop : ∀ (n j : Nat) (g3 : Nat → Nat), j + n = 4 → (∀ k, k < 4 → g3 k = sp_up c0 a (c0 a - sp_dg (sp_E nb) sk a) k + (if k < j then sp_E nb a k else 0)) → ∀ (H : Heap) (locs : List Loc) (ls : Array Slot), sp_Wd D (sp_wY ad dc (sp_aI nb) (sp_aI sk) (G) (sp_aI g3) (F) (known) (nI t)) A s.heap H locs → lv_has ls 3 [(0, .ref (ad 0)), (1, .int (nI a)), (2, .int (nI j))] → W pg l ev ({ frames := 2, cells := 0, slots := 0, locals := 45 } : Room) s mi args below meth cd H locs 0 0 Q (F0 mi 16 ls []) := by
    intro n
    induction n with
    | zero =>
      intro j g3 hi_j hg3 H locs ls hW hl
      refine lv_iload_n hx hb dX1_topple_16 rfl (lv_at hl 2 rfl) ?_
      refine lv_iconst (v := nI 4) hx hb dX1_topple_17 (by decide) ?_
      refine sp_icmp_ge (a := j) (b := 4) (tgt := 51) hx hb dX1_topple_18 (by decide) (by omega) (by omega) (fun c => ?_) (fun c => ?_)
      · skip
        have e4 : j = 4 := by omega
        subst e4
        have hfire : ∀ k, k < 4 → g3 k = sp_fire (sp_E nb) sk a 1 c0 k := fun k hk => by
          rw [hg3 k hk, if_pos hk]
          simp only [sp_fire, sp_up, if_pos hk, Nat.one_mul]
          by_cases ek : k = a
          · rw [if_pos ek, if_pos ek, ek]
          · rw [if_neg ek, if_neg ek]
        have hW := hW.arr 4 rfl (sp_aI (sp_fire (sp_E nb) sk a 1 c0)) (fun k hk => congrArg nI (hfire k hk))
        have hW : sp_Wd D (sp_wY ad dc (sp_aI nb) (sp_aI sk) (G) (sp_aI (sp_fire (sp_E nb) sk a 1 c0)) (F) (known) (nI t)) A s.heap H locs := hW
        refine lv_aload_n hx hb dX1_topple_51 rfl (lv_at hl 0 rfl) ?_
        refine lv_dup hx hb dX1_topple_52 rfl ?_
        refine sp_get1 hC hW 6 (by decide) q194 rfl (v := .int (nI t)) rfl dX1_topple_53 ?_
        refine lv_iconst (v := nI 1) hx hb dX1_topple_56 (by decide) ?_
        refine lv_iadd hx hb dX1_topple_57 ?_
        refine sp_top (y := nI (t + 1)) (nI_add _ _) ?_
        refine sp_put1 hC hW 6 (by decide) q194 rfl rfl (ty := .int) (v := .int (nI (t + 1))) (by decide +kernel) rfl rfl (Nat.le_of_ble_eq_true rfl) dX1_topple_58 (fun H locs hW => ?_)
        have hW : sp_Wd D (sp_wY ad dc (sp_aI nb) (sp_aI sk) (G) (sp_aI (sp_fire (sp_E nb) sk a 1 c0)) (F) (known) (nI (t + 1))) A s.heap H locs := hW
        exact hret _ _ _ _ (()) dX1_topple_61 (trivial) hW
      · skip
        exfalso; omega
    | succ n ih =>
      intro j g3 hi_j hg3 H locs ls hW hl
      refine lv_iload_n hx hb dX1_topple_16 rfl (lv_at hl 2 rfl) ?_
      refine lv_iconst (v := nI 4) hx hb dX1_topple_17 (by decide) ?_
      refine sp_icmp_ge (a := j) (b := 4) (tgt := 51) hx hb dX1_topple_18 (by decide) (by omega) (by omega) (fun c => ?_) (fun c => ?_)
      · skip
        exfalso; omega
      · skip
        refine lv_aload_n hx hb dX1_topple_21 rfl (lv_at hl 0 rfl) ?_
        refine lv_aload_n hx hb dX1_topple_22 rfl (lv_at hl 0 rfl) ?_
        refine sp_get1 hC hW 0 (by decide) q188 rfl (v := .ref (ad 1)) rfl dX1_topple_23 ?_
        refine lv_iload_n hx hb dX1_topple_26 rfl (lv_at hl 1 rfl) ?_
        refine sp_iald hC hW 1 0 rfl rfl (k := a) (v := nI (nb a)) (by omega) (by decide) rfl dX1_topple_27 ?_
        refine lv_iload_n hx hb dX1_topple_28 rfl (lv_at hl 2 rfl) ?_
        refine sp_callI (n := 2) (rest := []) hC hW (metX1_in l D ad dc _ (ad 0) _ _ (nb a) j (by omega) (by omega)) q239 q241 qs18 q31 q242 rfl rfl rfl (by decide +kernel) ⟨by decide, by decide⟩ rfl hl rfl (Nat.le_of_ble_eq_true rfl) ⟨Nat.zero_le _, Nat.zero_le _⟩ dX1_topple_29 (fun r u H locs hp hW => ?_)
        have hW : sp_Wd D (sp_wY ad dc (sp_aI nb) (sp_aI sk) (G) (sp_aI g3) (F) (known) (nI t)) A s.heap H locs := hW
        by_cases hbit : nb a / 2 ^ j % 2 = 1
        · skip
          have hp1 : r = nI 1 := hp.1 hbit
          subst hp1
          refine sp_if_eq (a := 1) (tgt := 45) hx hb dX1_topple_32 (by decide) (by omega) (fun cK => ?_) (fun cK => ?_)
          · skip
            exfalso; omega
          · skip
            refine lv_aload_n hx hb dX1_topple_35 rfl (lv_at hl 0 rfl) ?_
            refine sp_get1 hC hW 3 (by decide) q191 rfl (v := .ref (ad 4)) rfl dX1_topple_36 ?_
            refine lv_iload_n hx hb dX1_topple_39 rfl (lv_at hl 2 rfl) ?_
            refine lv_dup2_11 hx hb dX1_topple_40 rfl rfl ?_
            refine sp_iald hC hW 4 3 rfl rfl (k := j) (v := nI (g3 j)) (by omega) (by decide) rfl dX1_topple_41 ?_
            refine lv_iconst (v := nI 1) hx hb dX1_topple_42 (by decide) ?_
            refine lv_iadd hx hb dX1_topple_43 ?_
            refine sp_top (y := nI (g3 j + 1)) (nI_add _ _) ?_
            refine sp_iast hC hW 4 3 rfl rfl (k := j) (x := nI (g3 j + 1)) (by omega) (by decide) (sp_aI (sp_up (g3) (j) (g3 j + 1))) (sp_aup) dX1_topple_44 (fun H locs hW => ?_)
            have hW : sp_Wd D (sp_wY ad dc (sp_aI nb) (sp_aI sk) (G) (sp_aI (sp_up (g3) (j) (g3 j + 1))) (F) (known) (nI t)) A s.heap H locs := hW
            refine lv_iinc (v := nI (j + 1)) (lv' := [(2, .int (nI (j + 1))), (0, .ref (ad 0)), (1, .int (nI a))]) hx hb dX1_topple_45 hl (k := 2) rfl (nI_1 _) (by decide) rfl (fun ls hl => ?_)
            refine lv_goto (tgt := 16) hx hb dX1_topple_48 (by decide) ?_
            have hg4 : ∀ k, k < 4 → sp_up g3 j (g3 j + 1) k = sp_up c0 a (c0 a - sp_dg (sp_E nb) sk a) k + (if k < j + 1 then sp_E nb a k else 0) := by
              intro k hk
              have h0 := hg3 k hk
              by_cases ek : k = j
              · subst ek
                rw [if_neg (by omega)] at h0
                show (if k = k then g3 k + 1 else g3 k) = _
                have hbit : sp_E nb a k = 1 := hbit
                rw [if_pos rfl, if_pos (by omega), hbit]
                omega
              · show (if k = j then g3 j + 1 else g3 k) = _
                rw [if_neg ek, h0]
                rcases Nat.lt_or_ge k j with z | z
                · rw [if_pos z, if_pos (by omega)]
                · rw [if_neg (by omega), if_neg (by omega)]
            exact ih (j + 1) _ (by omega) hg4 _ _ _ hW (lv_sub hl [1, 2, 0] rfl)
        · skip
          have hp1 : r = nI 0 := hp.2 hbit
          subst hp1
          refine sp_if_eq (a := 0) (tgt := 45) hx hb dX1_topple_32 (by decide) (by omega) (fun cK => ?_) (fun cK => ?_)
          · skip
            refine lv_iinc (v := nI (j + 1)) (lv' := [(2, .int (nI (j + 1))), (0, .ref (ad 0)), (1, .int (nI a))]) hx hb dX1_topple_45 hl (k := 2) rfl (nI_1 _) (by decide) rfl (fun ls hl => ?_)
            refine lv_goto (tgt := 16) hx hb dX1_topple_48 (by decide) ?_
            have hE0 := sp_E1 nb a j
            have hbit : ¬ sp_E nb a j = 1 := hbit
            have hg4 : ∀ k, k < 4 → g3 k = sp_up c0 a (c0 a - sp_dg (sp_E nb) sk a) k + (if k < j + 1 then sp_E nb a k else 0) := by
              intro k hk
              rw [hg3 k hk]
              by_cases ek : k = j
              · subst ek; rw [if_neg (by omega), if_pos (by omega), show sp_E nb a k = 0 by omega]
              · rcases Nat.lt_or_ge k j with z | z
                · rw [if_pos z, if_pos (by omega)]
                · rw [if_neg (by omega), if_neg (by omega)]
            exact ih (j + 1) _ (by omega) hg4 _ _ _ hW (lv_sub hl [1, 2, 0] rfl)
          · skip
            exfalso; omega
  exact loop 4 0 _ (by omega) (fun k hk => by rw [if_neg (by omega), Nat.add_zero]) _ _ _ hW (lv_sub hl [1, 2, 0] rfl)
set_option maxHeartbeats 4000000 in
set_option maxRecDepth 100000 in
/-- settle -/
theorem metX1_settle (l : Launch) (D : va_G) (ad : Nat → Nat) (dc : Nat → ClassId) (nb sk : Nat → Nat) (hok : sp_Ok nb sk) (G F : Nat → Int32) (known top : Int32) (c0 : Nat → Nat) (hc0 : sp_tot c0 ≤ 1100) : sp_MV l D (sp_tY dc) yX1_settle cX1_settle 4 ({ frames := 3, cells := 0, slots := 0, locals := 67 } : Room) [.ref (ad 0)] (sp_wY ad dc (sp_aI nb) (sp_aI sk) (G) (sp_aI c0) (F) (known) (top)) (S := Unit) (fun _ => True) (fun _ => sp_wY ad dc (sp_aI nb) (sp_aI sk) (G) (sp_aI (sp_st (sp_E nb) sk c0)) (F) (known) (nI (sp_ct (sp_E nb) sk c0))) := by
  refine sp_entV (own := RX1) (by decide) rfl (Nat.le_of_ble_eq_true rfl) ?_
  intro pg ev s mi args below meth cd A Q ls hC hW hret hl
  obtain ⟨hx, hb, -⟩ := id hC
  have hl : lv_has ls 4 [(0, .ref (ad 0))] := hl
  refine lv_aload_n hx hb dX1_settle_0 rfl (lv_at hl 0 rfl) ?_
  refine lv_iconst (v := nI 0) hx hb dX1_settle_1 (by decide) ?_
  refine sp_put1 hC hW 6 (by decide) q194 rfl rfl (ty := .int) (v := .int (nI 0)) (by decide +kernel) rfl rfl (Nat.le_of_ble_eq_true rfl) dX1_settle_2 (fun H locs hW => ?_)
  have hW : sp_Wd D (sp_wY ad dc (sp_aI nb) (sp_aI sk) (G) (sp_aI c0) (F) (known) (nI 0)) A s.heap H locs := hW
  refine lv_iconst (v := nI 1) hx hb dX1_settle_5 (by decide) ?_
  refine lv_istore_n (lv' := [(1, .int (nI 1)), (0, .ref (ad 0))]) hx hb dX1_settle_6 rfl hl (by decide) rfl (fun ls hl => ?_)
  refine lv_iconst (v := nI 0) hx hb dX1_settle_7 (by decide) ?_
  refine lv_istore_n (lv' := [(2, .int (nI 0)), (1, .int (nI 1)), (0, .ref (ad 0))]) hx hb dX1_settle_8 rfl hl (by decide) rfl (fun ls hl => ?_)
  have lr : ∀ (nr rd : Nat) (c1 : Nat → Nat) (t : Nat) (mv : Nat) (L : List Nat), rd + nr = 1101 → mv ≤ 1 → (mv = 0 → sp_Sb (sp_E nb) sk c1) → (1 ≤ mv → rd ≤ t) → sp_Leg (sp_E nb) sk L c0 c1 → t = L.length → ∀ (H : Heap) (locs : List Loc) (ls : Array Slot), sp_Wd D (sp_wY ad dc (sp_aI nb) (sp_aI sk) (G) (sp_aI c1) (F) (known) (nI t)) A s.heap H locs → lv_has ls 4 [(0, .ref (ad 0)), (1, .int (nI mv)), (2, .int (nI rd))] → W pg l ev ({ frames := 3, cells := 0, slots := 0, locals := 67 } : Room) s mi args below meth cd H locs 0 0 Q (F0 mi 9 ls []) := by
    intro nr
    induction nr with
    | zero =>
      intro rd c1 t mv L hi_rd hmvb hsb hrt hleg ht H locs ls hW hl
      refine lv_iload_n hx hb dX1_settle_9 rfl (lv_at hl 2 rfl) ?_
      refine lv_sipush (v := nI 1101) hx hb dX1_settle_10 (by decide) ?_
      refine sp_icmp_ge (a := rd) (b := 1101) (tgt := 62) hx hb dX1_settle_13 (by decide) (by omega) (by omega) (fun c => ?_) (fun c => ?_)
      · skip
        have hbl := sp_Leg_tot hok.G L hleg
        have hs : sp_Sb (sp_E nb) sk c1 := hsb (by rcases Nat.eq_zero_or_pos mv with q | q; exact q; exact absurd (hrt q) (by omega))
        have hW := hW.arr 4 rfl (sp_aI (sp_st (sp_E nb) sk c0)) (fun j hj => congrArg nI (sp_st_eq hleg hs j hj).symm)
        rw [ht, ← sp_ct_eq hleg hs] at hW
        exact hret _ _ _ _ (()) dX1_settle_62 (trivial) hW
      · skip
        exfalso; omega
    | succ nr ihr =>
      intro rd c1 t mv L hi_rd hmvb hsb hrt hleg ht H locs ls hW hl
      refine lv_iload_n hx hb dX1_settle_9 rfl (lv_at hl 2 rfl) ?_
      refine lv_sipush (v := nI 1101) hx hb dX1_settle_10 (by decide) ?_
      refine sp_icmp_ge (a := rd) (b := 1101) (tgt := 62) hx hb dX1_settle_13 (by decide) (by omega) (by omega) (fun c => ?_) (fun c => ?_)
      · skip
        exfalso; omega
      · skip
        refine lv_iload_n hx hb dX1_settle_16 rfl (lv_at hl 1 rfl) ?_
        refine sp_if_eq (a := mv) (tgt := 62) hx hb dX1_settle_17 (by decide) (by omega) (fun cm => ?_) (fun cm => ?_)
        · skip
          have hs := hsb cm
          have hW := hW.arr 4 rfl (sp_aI (sp_st (sp_E nb) sk c0)) (fun j hj => congrArg nI (sp_st_eq hleg hs j hj).symm)
          rw [ht, ← sp_ct_eq hleg hs] at hW
          exact hret _ _ _ _ (()) dX1_settle_62 (trivial) hW
        · skip
          have hrt := hrt (by omega)
          refine lv_iconst (v := nI 0) hx hb dX1_settle_20 (by decide) ?_
          refine lv_istore_n (lv' := [(1, .int (nI 0)), (0, .ref (ad 0)), (2, .int (nI rd))]) hx hb dX1_settle_21 rfl hl (by decide) rfl (fun ls hl => ?_)
          refine lv_iconst (v := nI 0) hx hb dX1_settle_22 (by decide) ?_
          refine lv_istore_n (lv' := [(3, .int (nI 0)), (1, .int (nI 0)), (0, .ref (ad 0)), (2, .int (nI rd))]) hx hb dX1_settle_23 rfl hl (by decide) rfl (fun ls hl => ?_)
          have la : ∀ (na i : Nat) (c2 : Nat → Nat) (t2 : Nat) (mv2 : Nat) (L2 : List Nat), i + na = 4 → mv2 ≤ 1 → (1 ≤ mv2 → t + 1 ≤ t2) → t ≤ t2 → (mv2 = 0 → ∀ k, k < i → c2 k < sp_dg (sp_E nb) sk k) → sp_Leg (sp_E nb) sk L2 c0 c2 → t2 = L2.length → ∀ (H : Heap) (locs : List Loc) (ls : Array Slot), sp_Wd D (sp_wY ad dc (sp_aI nb) (sp_aI sk) (G) (sp_aI c2) (F) (known) (nI t2)) A s.heap H locs → lv_has ls 4 [(0, .ref (ad 0)), (1, .int (nI mv2)), (2, .int (nI rd)), (3, .int (nI i))] → W pg l ev ({ frames := 3, cells := 0, slots := 0, locals := 67 } : Room) s mi args below meth cd H locs 0 0 Q (F0 mi 24 ls []) := by
            intro na
            induction na with
            | zero =>
              intro i c2 t2 mv2 L2 hi_i hmv2b hmv2 htt hz hleg2 ht2 H locs ls hW hl
              refine lv_iload_n hx hb dX1_settle_24 rfl (lv_at hl 3 rfl) ?_
              refine lv_iconst (v := nI 4) hx hb dX1_settle_25 (by decide) ?_
              refine sp_icmp_ge (a := i) (b := 4) (tgt := 56) hx hb dX1_settle_26 (by decide) (by omega) (by omega) (fun c => ?_) (fun c => ?_)
              · skip
                have e4 : i = 4 := by omega
                subst e4
                refine lv_iinc (v := nI (rd + 1)) (lv' := [(2, .int (nI (rd + 1))), (0, .ref (ad 0)), (1, .int (nI mv2)), (3, .int (nI 4))]) hx hb dX1_settle_56 hl (k := 2) rfl (nI_1 _) (by decide) rfl (fun ls hl => ?_)
                refine lv_goto (tgt := 9) hx hb dX1_settle_59 (by decide) ?_
                exact ihr (rd + 1) c2 t2 mv2 L2 (by omega) hmv2b (fun q => hz q) (fun q => by have := hmv2 q; omega) hleg2 ht2 _ _ _ hW (lv_sub hl [1, 2, 0] rfl)
              · skip
                exfalso; omega
            | succ na iha =>
              intro i c2 t2 mv2 L2 hi_i hmv2b hmv2 htt hz hleg2 ht2 H locs ls hW hl
              refine lv_iload_n hx hb dX1_settle_24 rfl (lv_at hl 3 rfl) ?_
              refine lv_iconst (v := nI 4) hx hb dX1_settle_25 (by decide) ?_
              refine sp_icmp_ge (a := i) (b := 4) (tgt := 56) hx hb dX1_settle_26 (by decide) (by omega) (by omega) (fun c => ?_) (fun c => ?_)
              · skip
                exfalso; omega
              · skip
                have hd5 := hok.dg5 i (by omega)
                have htl := sp_Leg_tot hok.G L2 hleg2
                have hca : c2 i ≤ sp_tot c2 := sp_tot_ge i (by omega)
                refine lv_aload_n hx hb dX1_settle_29 rfl (lv_at hl 0 rfl) ?_
                refine sp_get1 hC hW 3 (by decide) q191 rfl (v := .ref (ad 4)) rfl dX1_settle_30 ?_
                refine lv_iload_n hx hb dX1_settle_33 rfl (lv_at hl 3 rfl) ?_
                refine sp_iald hC hW 4 3 rfl rfl (k := i) (v := nI (c2 i)) (by omega) (by decide) rfl dX1_settle_34 ?_
                refine lv_aload_n hx hb dX1_settle_35 rfl (lv_at hl 0 rfl) ?_
                refine lv_iload_n hx hb dX1_settle_36 rfl (lv_at hl 3 rfl) ?_
                refine sp_callI (n := 1) (rest := [.int (nI (c2 i))]) hC hW (metX1_degreeOf l D ad dc nb sk hok _ _ _ _ _ (i) (by omega)) q235 q237 qs17 q31 q238 rfl rfl rfl (by decide +kernel) ⟨by decide, by decide⟩ rfl hl rfl (Nat.le_of_ble_eq_true rfl) ⟨Nat.zero_le _, Nat.zero_le _⟩ dX1_settle_37 (fun r u H locs hp hW => ?_)
                have hp : r = nI (sp_dg (sp_E nb) sk i) := hp
                subst hp
                have hW : sp_Wd D (sp_wY ad dc (sp_aI nb) (sp_aI sk) (G) (sp_aI c2) (F) (known) (nI t2)) A s.heap H locs := hW
                refine sp_icmp_lt (a := c2 i) (b := sp_dg (sp_E nb) sk i) (tgt := 50) hx hb dX1_settle_40 (by decide) (by omega) (by omega) (fun cl => ?_) (fun cl => ?_)
                · skip
                  refine lv_iinc (v := nI (i + 1)) (lv' := [(3, .int (nI (i + 1))), (0, .ref (ad 0)), (1, .int (nI mv2)), (2, .int (nI rd))]) hx hb dX1_settle_50 hl (k := 3) rfl (nI_1 _) (by decide) rfl (fun ls hl => ?_)
                  refine lv_goto (tgt := 24) hx hb dX1_settle_53 (by decide) ?_
                  exact iha (i + 1) c2 t2 mv2 L2 (by omega) hmv2b hmv2 htt (fun z => lt_s (hz z) cl) hleg2 ht2 _ _ _ hW (lv_sub hl [1, 2, 3, 0] rfl)
                · skip
                  refine lv_aload_n hx hb dX1_settle_43 rfl (lv_at hl 0 rfl) ?_
                  refine lv_iload_n hx hb dX1_settle_44 rfl (lv_at hl 3 rfl) ?_
                  refine sp_callV (n := 1) (rest := []) hC hW (metX1_topple l D ad dc nb sk hok _ _ _ c2 t2 i (by omega) cl) q243 q245 qs19 q31 q246 rfl rfl rfl (by decide +kernel) ⟨by decide, by decide⟩ rfl hl rfl (Nat.le_of_ble_eq_true rfl) ⟨Nat.zero_le _, Nat.zero_le _⟩ dX1_settle_45 (fun u H locs hp hW => ?_)
                  have hW : sp_Wd D (sp_wY ad dc (sp_aI nb) (sp_aI sk) (G) (sp_aI (sp_fire (sp_E nb) sk i 1 c2)) (F) (known) (nI (t2 + 1))) A s.heap H locs := hW
                  refine lv_iconst (v := nI 1) hx hb dX1_settle_48 (by decide) ?_
                  refine lv_istore_n (lv' := [(1, .int (nI 1)), (0, .ref (ad 0)), (2, .int (nI rd)), (3, .int (nI i))]) hx hb dX1_settle_49 rfl hl (by decide) rfl (fun ls hl => ?_)
                  refine lv_iinc (v := nI (i + 1)) (lv' := [(3, .int (nI (i + 1))), (1, .int (nI 1)), (0, .ref (ad 0)), (2, .int (nI rd))]) hx hb dX1_settle_50 hl (k := 3) rfl (nI_1 _) (by decide) rfl (fun ls hl => ?_)
                  refine lv_goto (tgt := 24) hx hb dX1_settle_53 (by decide) ?_
                  exact iha (i + 1) (sp_fire (sp_E nb) sk i 1 c2) (t2 + 1) 1 (L2 ++ [i]) (by omega) (by omega) (fun _ => by omega) (by omega) (fun z => by omega) (sp_Leg_app _ _ hleg2 ⟨by omega, cl, fun _ _ => rfl⟩) (by rw [List.length_append, ht2]; rfl) _ _ _ hW (lv_sub hl [2, 1, 3, 0] rfl)
          exact la 4 0 c1 t 0 L (by omega) (by omega) (fun z => by omega) (Nat.le_refl _) (fun _ => lt_0) hleg ht _ _ _ hW (lv_sub hl [2, 1, 3, 0] rfl)
  exact lr 1101 0 c0 0 1 [] (by omega) (by omega) (fun z => by omega) (fun _ => Nat.le_refl _) (fun _ _ => rfl) rfl _ _ _ hW (lv_sub hl [2, 1, 0] rfl)
set_option maxHeartbeats 4000000 in
set_option maxRecDepth 100000 in
/-- written -/
theorem metX1_written (l : Launch) (D : va_G) (ad : Nat → Nat) (dc : Nat → ClassId) (N S G F : Nat → Int32) (known top : Int32) (c0 : Nat → Nat) : sp_MI l D (sp_tY dc) yX1_written cX1_written 1 .int ({ frames := 0, cells := 0, slots := 0, locals := 0 } : Room) [.ref (ad 0)] (sp_wY ad dc (N) (S) (G) (sp_aI c0) (F) (known) (top)) (S := Unit) (fun r _ => r = nI (sp_pk c0)) (fun _ => sp_wY ad dc (N) (S) (G) (sp_aI c0) (F) (known) (top)) := by
  refine sp_entI (own := RX1) (by decide) rfl (Nat.le_of_ble_eq_true rfl) ?_
  intro pg ev s mi args below meth cd A Q ls hC hW hret hl
  obtain ⟨hx, hb, -⟩ := id hC
  have hl : lv_has ls 1 [(0, .ref (ad 0))] := hl
  refine lv_sipush (v := nI 512) hx hb dX1_written_0 (by decide) ?_
  refine lv_aload_n hx hb dX1_written_3 rfl (lv_at hl 0 rfl) ?_
  refine sp_get1 hC hW 3 (by decide) q191 rfl (v := .ref (ad 4)) rfl dX1_written_4 ?_
  refine lv_iconst (v := nI 0) hx hb dX1_written_7 (by decide) ?_
  refine sp_iald hC hW 4 3 rfl rfl (k := 0) (v := nI (c0 0)) (by omega) (by decide) rfl dX1_written_8 ?_
  refine lv_imul hx hb dX1_written_9 ?_
  refine sp_top (y := nI (512 * (c0 0))) (pk_mul _ _) ?_
  refine lv_bipush (v := nI 64) hx hb dX1_written_10 (by decide) ?_
  refine lv_aload_n hx hb dX1_written_12 rfl (lv_at hl 0 rfl) ?_
  refine sp_get1 hC hW 3 (by decide) q191 rfl (v := .ref (ad 4)) rfl dX1_written_13 ?_
  refine lv_iconst (v := nI 1) hx hb dX1_written_16 (by decide) ?_
  refine sp_iald hC hW 4 3 rfl rfl (k := 1) (v := nI (c0 1)) (by omega) (by decide) rfl dX1_written_17 ?_
  refine lv_imul hx hb dX1_written_18 ?_
  refine sp_top (y := nI (64 * (c0 1))) (pk_mul _ _) ?_
  refine lv_iadd hx hb dX1_written_19 ?_
  refine sp_top (y := nI (512 * (c0 0) + (64 * (c0 1)))) (nI_add _ _) ?_
  refine lv_bipush (v := nI 8) hx hb dX1_written_20 (by decide) ?_
  refine lv_aload_n hx hb dX1_written_22 rfl (lv_at hl 0 rfl) ?_
  refine sp_get1 hC hW 3 (by decide) q191 rfl (v := .ref (ad 4)) rfl dX1_written_23 ?_
  refine lv_iconst (v := nI 2) hx hb dX1_written_26 (by decide) ?_
  refine sp_iald hC hW 4 3 rfl rfl (k := 2) (v := nI (c0 2)) (by omega) (by decide) rfl dX1_written_27 ?_
  refine lv_imul hx hb dX1_written_28 ?_
  refine sp_top (y := nI (8 * (c0 2))) (pk_mul _ _) ?_
  refine lv_iadd hx hb dX1_written_29 ?_
  refine sp_top (y := nI (512 * (c0 0) + (64 * (c0 1)) + (8 * (c0 2)))) (nI_add _ _) ?_
  refine lv_aload_n hx hb dX1_written_30 rfl (lv_at hl 0 rfl) ?_
  refine sp_get1 hC hW 3 (by decide) q191 rfl (v := .ref (ad 4)) rfl dX1_written_31 ?_
  refine lv_iconst (v := nI 3) hx hb dX1_written_34 (by decide) ?_
  refine sp_iald hC hW 4 3 rfl rfl (k := 3) (v := nI (c0 3)) (by omega) (by decide) rfl dX1_written_35 ?_
  refine lv_iadd hx hb dX1_written_36 ?_
  refine sp_top (y := nI (512 * (c0 0) + (64 * (c0 1)) + (8 * (c0 2)) + (c0 3))) (nI_add _ _) ?_
  exact hret _ _ _ _ _ (()) dX1_written_37 (rfl) (rfl) hW
set_option maxHeartbeats 4000000 in
set_option maxRecDepth 100000 in
/-- isStable -/
theorem metX1_isStable (l : Launch) (D : va_G) (ad : Nat → Nat) (dc : Nat → ClassId) (nb sk : Nat → Nat) (hok : sp_Ok nb sk) (G Wk F : Nat → Int32) (known top : Int32) (x : Int32) : sp_MI l D (sp_tY dc) yX1_isStable cX1_isStable 3 .boolean ({ frames := 2, cells := 0, slots := 0, locals := 45 } : Room) [.ref (ad 0), .int x] (sp_wY ad dc (sp_aI nb) (sp_aI sk) (G) (Wk) (F) (known) (top)) (S := Unit) (fun r _ => sp_QB (sp_isS nb sk x) r) (fun _ => sp_wY ad dc (sp_aI nb) (sp_aI sk) (G) (Wk) (F) (known) (top)) := by
  refine sp_entI (own := RX1) (by decide) rfl (Nat.le_of_ble_eq_true rfl) ?_
  intro pg ev s mi args below meth cd A Q ls hC hW hret hl
  obtain ⟨hx, hb, -⟩ := id hC
  have hl : lv_has ls 3 [(0, .ref (ad 0)), (1, .int x)] := hl
  refine lv_iload_n hx hb dX1_isStable_0 rfl (lv_at hl 1 rfl) ?_
  refine lv_if_lt (tgt := 11) hx hb dX1_isStable_1 (by decide) (fun c1 => ?_) (fun c1 => ?_)
  · skip
    refine lv_iconst (v := nI 0) hx hb dX1_isStable_11 (by decide) ?_
    exact hret _ _ _ _ _ (()) dX1_isStable_12 (rfl) (sp_QB.n (fun q => absurd c1 (by obtain ⟨j, hj, e, -⟩ := q; rw [e]; exact nI_pos (by omega)))) hW
  · skip
    obtain ⟨y, hy, rfl⟩ := nI_of c1
    refine lv_iload_n hx hb dX1_isStable_4 rfl (lv_at hl 1 rfl) ?_
    refine lv_sipush (v := nI 4095) hx hb dX1_isStable_5 (by decide) ?_
    refine sp_icmp_le (a := y) (b := 4095) (tgt := 13) hx hb dX1_isStable_8 (by decide) (by omega) (by omega) (fun c2 => ?_) (fun c2 => ?_)
    · skip
      refine lv_iconst (v := nI 0) hx hb dX1_isStable_13 (by decide) ?_
      refine lv_istore_n (lv' := [(2, .int (nI 0)), (0, .ref (ad 0)), (1, .int (nI y))]) hx hb dX1_isStable_14 rfl hl (by decide) rfl (fun ls hl => ?_)
      have loop : ∀ (n i : Nat) , i + n = 4 → (∀ k, k < i → sp_dt y k < sp_dg (sp_E nb) sk k) → ∀ (H : Heap) (locs : List Loc) (ls : Array Slot), sp_Wd D (sp_wY ad dc (sp_aI nb) (sp_aI sk) (G) (Wk) (F) (known) (top)) A s.heap H locs → lv_has ls 3 [(0, .ref (ad 0)), (1, .int (nI y)), (2, .int (nI i))] → W pg l ev ({ frames := 2, cells := 0, slots := 0, locals := 45 } : Room) s mi args below meth cd H locs 0 0 Q (F0 mi 15 ls []) := by
        intro n
        induction n with
        | zero =>
          intro i hi_i hd H locs ls hW hl
          refine lv_iload_n hx hb dX1_isStable_15 rfl (lv_at hl 2 rfl) ?_
          refine lv_iconst (v := nI 4) hx hb dX1_isStable_16 (by decide) ?_
          refine sp_icmp_ge (a := i) (b := 4) (tgt := 42) hx hb dX1_isStable_17 (by decide) (by omega) (by omega) (fun c => ?_) (fun c => ?_)
          · skip
            refine lv_iconst (v := nI 1) hx hb dX1_isStable_42 (by decide) ?_
            exact hret _ _ _ _ _ (()) dX1_isStable_43 (rfl) (sp_QB.p ⟨y, by omega, rfl, fun k hk => hd k (by omega)⟩) hW
          · skip
            exfalso; omega
        | succ n ih =>
          intro i hi_i hd H locs ls hW hl
          refine lv_iload_n hx hb dX1_isStable_15 rfl (lv_at hl 2 rfl) ?_
          refine lv_iconst (v := nI 4) hx hb dX1_isStable_16 (by decide) ?_
          refine sp_icmp_ge (a := i) (b := 4) (tgt := 42) hx hb dX1_isStable_17 (by decide) (by omega) (by omega) (fun c => ?_) (fun c => ?_)
          · skip
            exfalso; omega
          · skip
            refine lv_aload_n hx hb dX1_isStable_20 rfl (lv_at hl 0 rfl) ?_
            refine lv_iload_n hx hb dX1_isStable_21 rfl (lv_at hl 1 rfl) ?_
            refine lv_iload_n hx hb dX1_isStable_22 rfl (lv_at hl 2 rfl) ?_
            refine sp_callI (n := 2) (rest := []) hC hW (metX1_digit l D ad dc _ (ad 0) _ _ (y) (i) (by omega) (by omega)) q259 q261 qs21 q31 q262 rfl rfl rfl (by decide +kernel) ⟨by decide, by decide⟩ rfl hl rfl (Nat.le_of_ble_eq_true rfl) ⟨Nat.zero_le _, Nat.zero_le _⟩ dX1_isStable_23 (fun r u H locs hp hW => ?_)
            have hp : r = nI (sp_dt y i) := hp
            subst hp
            have hW : sp_Wd D (sp_wY ad dc (sp_aI nb) (sp_aI sk) (G) (Wk) (F) (known) (top)) A s.heap H locs := hW
            refine lv_aload_n hx hb dX1_isStable_26 rfl (lv_at hl 0 rfl) ?_
            refine lv_iload_n hx hb dX1_isStable_27 rfl (lv_at hl 2 rfl) ?_
            refine sp_callI (n := 1) (rest := [.int (nI (sp_dt y i))]) hC hW (metX1_degreeOf l D ad dc nb sk hok _ _ _ _ _ (i) (by omega)) q235 q237 qs17 q31 q238 rfl rfl rfl (by decide +kernel) ⟨by decide, by decide⟩ rfl hl rfl (Nat.le_of_ble_eq_true rfl) ⟨Nat.zero_le _, Nat.zero_le _⟩ dX1_isStable_28 (fun r u H locs hp hW => ?_)
            have hp : r = nI (sp_dg (sp_E nb) sk i) := hp
            subst hp
            have hW : sp_Wd D (sp_wY ad dc (sp_aI nb) (sp_aI sk) (G) (Wk) (F) (known) (top)) A s.heap H locs := hW
            have hdg5 := hok.dg5 i (by omega)
            have hdt8 := sp_dt_lt y i
            refine sp_icmp_lt (a := sp_dt y i) (b := sp_dg (sp_E nb) sk i) (tgt := 36) hx hb dX1_isStable_31 (by decide) (by omega) (by omega) (fun c3 => ?_) (fun c3 => ?_)
            · skip
              refine lv_iinc (v := nI (i + 1)) (lv' := [(2, .int (nI (i + 1))), (0, .ref (ad 0)), (1, .int (nI y))]) hx hb dX1_isStable_36 hl (k := 2) rfl (nI_1 _) (by decide) rfl (fun ls hl => ?_)
              refine lv_goto (tgt := 15) hx hb dX1_isStable_39 (by decide) ?_
              exact ih (i + 1) (by omega) (lt_s hd c3) _ _ _ hW (lv_sub hl [1, 2, 0] rfl)
            · skip
              refine lv_iconst (v := nI 0) hx hb dX1_isStable_34 (by decide) ?_
              exact hret _ _ _ _ _ (()) dX1_isStable_35 (rfl) (sp_QB.n (fun q => absurd c3 (by obtain ⟨j, hj, e, hs⟩ := q; have e := (nI_eq (by omega) (by omega)).mp e; subst e; exact Nat.not_le.mpr (hs i (by omega))))) hW
      exact loop 4 0 (by omega) lt_0 _ _ _ hW (lv_sub hl [1, 2, 0] rfl)
    · skip
      refine lv_iconst (v := nI 0) hx hb dX1_isStable_11 (by decide) ?_
      exact hret _ _ _ _ _ (()) dX1_isStable_12 (rfl) (sp_QB.n (fun q => absurd c2 (by obtain ⟨j, hj, e, hs⟩ := q; have e := (nI_eq (by omega) (by omega)).mp e; omega))) hW
set_option maxHeartbeats 4000000 in
set_option maxRecDepth 100000 in
/-- sum -/
theorem metX1_sum (l : Launch) (D : va_G) (ad : Nat → Nat) (dc : Nat → ClassId) (nb sk : Nat → Nat) (hok : sp_Ok nb sk) (G Wk F : Nat → Int32) (known top : Int32) (x y : Nat) (hx0 : x < 4096) (hy0 : y < 4096) : sp_MI l D (sp_tY dc) yX1_sum cX1_sum 4 .int ({ frames := 4, cells := 0, slots := 0, locals := 90 } : Room) [.ref (ad 0), .int (nI x), .int (nI y)] (sp_wY ad dc (sp_aI nb) (sp_aI sk) (G) (Wk) (F) (known) (top)) (S := (Nat → Int32) × Int32) (fun r _ => r = nI (sp_ad nb sk x y)) (fun u => sp_wY ad dc (sp_aI nb) (sp_aI sk) (G) (u.1) (F) (known) (u.2)) := by
  refine sp_entI (own := RX1) (by decide) rfl (Nat.le_of_ble_eq_true rfl) ?_
  intro pg ev s mi args below meth cd A Q ls hC hW hret hl
  obtain ⟨hx, hb, -⟩ := id hC
  have hl : lv_has ls 4 [(0, .ref (ad 0)), (1, .int (nI x)), (2, .int (nI y))] := hl
  refine lv_iconst (v := nI 0) hx hb dX1_sum_0 (by decide) ?_
  refine lv_istore_n (lv' := [(3, .int (nI 0)), (0, .ref (ad 0)), (1, .int (nI x)), (2, .int (nI y))]) hx hb dX1_sum_1 rfl hl (by decide) rfl (fun ls hl => ?_)
  have loop : ∀ (n i : Nat) (g1 : Nat → Int32), i + n = 4 → (∀ k, k < i → g1 k = nI (sp_dt x k + sp_dt y k)) → ∀ (H : Heap) (locs : List Loc) (ls : Array Slot), sp_Wd D (sp_wY ad dc (sp_aI nb) (sp_aI sk) (G) (g1) (F) (known) (top)) A s.heap H locs → lv_has ls 4 [(0, .ref (ad 0)), (1, .int (nI x)), (2, .int (nI y)), (3, .int (nI i))] → W pg l ev ({ frames := 4, cells := 0, slots := 0, locals := 90 } : Room) s mi args below meth cd H locs 0 0 Q (F0 mi 2 ls []) := by
    intro n
    induction n with
    | zero =>
      intro i g1 hi_i hg H locs ls hW hl
      refine lv_iload_n hx hb dX1_sum_2 rfl (lv_at hl 3 rfl) ?_
      refine lv_iconst (v := nI 4) hx hb dX1_sum_3 (by decide) ?_
      refine sp_icmp_ge (a := i) (b := 4) (tgt := 32) hx hb dX1_sum_4 (by decide) (by omega) (by omega) (fun c => ?_) (fun c => ?_)
      · skip
        refine lv_aload_n hx hb dX1_sum_32 rfl (lv_at hl 0 rfl) ?_
        have hW := hW.arr 4 rfl (sp_aI (fun k => sp_dt x k + sp_dt y k)) (fun j hj => hg j (by omega))
        have hW : sp_Wd D (sp_wY ad dc (sp_aI nb) (sp_aI sk) (G) (sp_aI (fun k => sp_dt x k + sp_dt y k)) (F) (known) (top)) A s.heap H locs := hW
        have htt : sp_tot (fun k => sp_dt x k + sp_dt y k) ≤ 1100 := by
          have h0 := sp_dt_lt x 0
          have h1 := sp_dt_lt x 1
          have h2 := sp_dt_lt x 2
          have h3 := sp_dt_lt x 3
          have g0 := sp_dt_lt y 0
          have g1 := sp_dt_lt y 1
          have g2 := sp_dt_lt y 2
          have g3 := sp_dt_lt y 3
          simp only [sp_tot]; omega
        refine sp_callV (n := 0) (rest := []) hC hW (metX1_settle l D ad dc nb sk hok _ _ _ _ (fun k => sp_dt x k + sp_dt y k) htt) q231 q233 qs16 q31 q234 rfl rfl rfl (by decide +kernel) ⟨by decide, by decide⟩ rfl hl rfl (Nat.le_of_ble_eq_true rfl) ⟨Nat.zero_le _, Nat.zero_le _⟩ dX1_sum_33 (fun u H locs hp hW => ?_)
        have hW : sp_Wd D (sp_wY ad dc (sp_aI nb) (sp_aI sk) (G) (sp_aI (sp_st (sp_E nb) sk (fun k => sp_dt x k + sp_dt y k))) (F) (known) (nI (sp_ct (sp_E nb) sk (fun k => sp_dt x k + sp_dt y k)))) A s.heap H locs := hW
        refine lv_aload_n hx hb dX1_sum_36 rfl (lv_at hl 0 rfl) ?_
        refine sp_callI (n := 0) (rest := []) hC hW (metX1_written l D ad dc _ _ _ _ _ _ (sp_st (sp_E nb) sk (fun k => sp_dt x k + sp_dt y k))) q283 q285 qs25 q31 q286 rfl rfl rfl (by decide +kernel) ⟨by decide, by decide⟩ rfl hl rfl (Nat.le_of_ble_eq_true rfl) ⟨Nat.zero_le _, Nat.zero_le _⟩ dX1_sum_37 (fun r u H locs hp hW => ?_)
        have hp : r = nI (sp_ad nb sk x y) := hp
        subst hp
        have hW : sp_Wd D (sp_wY ad dc (sp_aI nb) (sp_aI sk) (G) (sp_aI (sp_st (sp_E nb) sk (fun k => sp_dt x k + sp_dt y k))) (F) (known) (nI (sp_ct (sp_E nb) sk (fun k => sp_dt x k + sp_dt y k)))) A s.heap H locs := hW
        exact hret _ _ _ _ _ ((_, _)) dX1_sum_40 (rfl) (rfl) hW
      · skip
        exfalso; omega
    | succ n ih =>
      intro i g1 hi_i hg H locs ls hW hl
      refine lv_iload_n hx hb dX1_sum_2 rfl (lv_at hl 3 rfl) ?_
      refine lv_iconst (v := nI 4) hx hb dX1_sum_3 (by decide) ?_
      refine sp_icmp_ge (a := i) (b := 4) (tgt := 32) hx hb dX1_sum_4 (by decide) (by omega) (by omega) (fun c => ?_) (fun c => ?_)
      · skip
        exfalso; omega
      · skip
        refine lv_aload_n hx hb dX1_sum_7 rfl (lv_at hl 0 rfl) ?_
        refine sp_get1 hC hW 3 (by decide) q191 rfl (v := .ref (ad 4)) rfl dX1_sum_8 ?_
        refine lv_iload_n hx hb dX1_sum_11 rfl (lv_at hl 3 rfl) ?_
        refine lv_aload_n hx hb dX1_sum_12 rfl (lv_at hl 0 rfl) ?_
        refine lv_iload_n hx hb dX1_sum_13 rfl (lv_at hl 1 rfl) ?_
        refine lv_iload_n hx hb dX1_sum_14 rfl (lv_at hl 3 rfl) ?_
        refine sp_callI (n := 2) (rest := [.int (nI i), .ref (ad 4)]) hC hW (metX1_digit l D ad dc _ (ad 0) _ _ (x) (i) (by omega) (by omega)) q259 q261 qs21 q31 q262 rfl rfl rfl (by decide +kernel) ⟨by decide, by decide⟩ rfl hl rfl (Nat.le_of_ble_eq_true rfl) ⟨Nat.zero_le _, Nat.zero_le _⟩ dX1_sum_15 (fun r u H locs hp hW => ?_)
        have hp : r = nI (sp_dt x i) := hp
        subst hp
        have hW : sp_Wd D (sp_wY ad dc (sp_aI nb) (sp_aI sk) (G) (g1) (F) (known) (top)) A s.heap H locs := hW
        refine lv_aload_n hx hb dX1_sum_18 rfl (lv_at hl 0 rfl) ?_
        refine lv_iload_n hx hb dX1_sum_19 rfl (lv_at hl 2 rfl) ?_
        refine lv_iload_n hx hb dX1_sum_20 rfl (lv_at hl 3 rfl) ?_
        refine sp_callI (n := 2) (rest := [.int (nI (sp_dt x i)), .int (nI i), .ref (ad 4)]) hC hW (metX1_digit l D ad dc _ (ad 0) _ _ (y) (i) (by omega) (by omega)) q259 q261 qs21 q31 q262 rfl rfl rfl (by decide +kernel) ⟨by decide, by decide⟩ rfl hl rfl (Nat.le_of_ble_eq_true rfl) ⟨Nat.zero_le _, Nat.zero_le _⟩ dX1_sum_21 (fun r u H locs hp hW => ?_)
        have hp : r = nI (sp_dt y i) := hp
        subst hp
        have hW : sp_Wd D (sp_wY ad dc (sp_aI nb) (sp_aI sk) (G) (g1) (F) (known) (top)) A s.heap H locs := hW
        refine lv_iadd hx hb dX1_sum_24 ?_
        refine sp_top (y := nI (sp_dt x i + (sp_dt y i))) (nI_add _ _) ?_
        refine sp_iast hC hW 4 3 rfl rfl (k := i) (x := nI (sp_dt x i + (sp_dt y i))) (by omega) (by decide) (fun j => if j = i then nI (sp_dt x i + sp_dt y i) else g1 j) (fun _ _ => rfl) dX1_sum_25 (fun H locs hW => ?_)
        have hW : sp_Wd D (sp_wY ad dc (sp_aI nb) (sp_aI sk) (G) (fun j => if j = i then nI (sp_dt x i + sp_dt y i) else g1 j) (F) (known) (top)) A s.heap H locs := hW
        refine lv_iinc (v := nI (i + 1)) (lv' := [(3, .int (nI (i + 1))), (0, .ref (ad 0)), (1, .int (nI x)), (2, .int (nI y))]) hx hb dX1_sum_26 hl (k := 3) rfl (nI_1 _) (by decide) rfl (fun ls hl => ?_)
        refine lv_goto (tgt := 2) hx hb dX1_sum_29 (by decide) ?_
        exact ih (i + 1) _ (by omega) (lt_s (fun k hk => by show (if k = i then _ else g1 k) = _; rw [if_neg (by omega)]; exact hg k hk) (by show (if i = i then _ else _) = _; rw [if_pos rfl])) _ _ _ hW (lv_sub hl [1, 2, 3, 0] rfl)
  exact loop 4 0 Wk (by omega) lt_0 _ _ _ hW (lv_sub hl [1, 2, 3, 0] rfl)
set_option maxHeartbeats 4000000 in
set_option maxRecDepth 100000 in
/-- full -/
theorem metX1_full (l : Launch) (D : va_G) (ad : Nat → Nat) (dc : Nat → ClassId) (nb sk : Nat → Nat) (hok : sp_Ok nb sk) (G Wk F : Nat → Int32) (known top : Int32) : sp_MI l D (sp_tY dc) yX1_full cX1_full 2 .int ({ frames := 2, cells := 0, slots := 0, locals := 45 } : Room) [.ref (ad 0)] (sp_wY ad dc (sp_aI nb) (sp_aI sk) (G) (Wk) (F) (known) (top)) (S := Nat → Int32) (fun r _ => r = nI (sp_pk (sp_fl nb sk))) (fun u => sp_wY ad dc (sp_aI nb) (sp_aI sk) (G) (u) (F) (known) (top)) := by
  refine sp_entI (own := RX1) (by decide) rfl (Nat.le_of_ble_eq_true rfl) ?_
  intro pg ev s mi args below meth cd A Q ls hC hW hret hl
  obtain ⟨hx, hb, -⟩ := id hC
  have hl : lv_has ls 2 [(0, .ref (ad 0))] := hl
  refine lv_iconst (v := nI 0) hx hb dX1_full_0 (by decide) ?_
  refine lv_istore_n (lv' := [(1, .int (nI 0)), (0, .ref (ad 0))]) hx hb dX1_full_1 rfl hl (by decide) rfl (fun ls hl => ?_)
  have loop : ∀ (n i : Nat) (g1 : Nat → Int32), i + n = 4 → (∀ k, k < i → g1 k = nI (sp_fl nb sk k)) → ∀ (H : Heap) (locs : List Loc) (ls : Array Slot), sp_Wd D (sp_wY ad dc (sp_aI nb) (sp_aI sk) (G) (g1) (F) (known) (top)) A s.heap H locs → lv_has ls 2 [(0, .ref (ad 0)), (1, .int (nI i))] → W pg l ev ({ frames := 2, cells := 0, slots := 0, locals := 45 } : Room) s mi args below meth cd H locs 0 0 Q (F0 mi 2 ls []) := by
    intro n
    induction n with
    | zero =>
      intro i g1 hi_i hg H locs ls hW hl
      refine lv_iload_n hx hb dX1_full_2 rfl (lv_at hl 1 rfl) ?_
      refine lv_iconst (v := nI 4) hx hb dX1_full_3 (by decide) ?_
      refine sp_icmp_ge (a := i) (b := 4) (tgt := 26) hx hb dX1_full_4 (by decide) (by omega) (by omega) (fun c => ?_) (fun c => ?_)
      · skip
        refine lv_aload_n hx hb dX1_full_26 rfl (lv_at hl 0 rfl) ?_
        have hW := hW.arr 4 rfl (sp_aI (sp_fl nb sk)) (fun j hj => hg j (by omega))
        have hW : sp_Wd D (sp_wY ad dc (sp_aI nb) (sp_aI sk) (G) (sp_aI (sp_fl nb sk)) (F) (known) (top)) A s.heap H locs := hW
        refine sp_callI (n := 0) (rest := []) hC hW (metX1_written l D ad dc _ _ _ _ _ _ (sp_fl nb sk)) q283 q285 qs25 q31 q286 rfl rfl rfl (by decide +kernel) ⟨by decide, by decide⟩ rfl hl rfl (Nat.le_of_ble_eq_true rfl) ⟨Nat.zero_le _, Nat.zero_le _⟩ dX1_full_27 (fun r u H locs hp hW => ?_)
        have hp : r = nI (sp_pk (sp_fl nb sk)) := hp
        subst hp
        have hW : sp_Wd D (sp_wY ad dc (sp_aI nb) (sp_aI sk) (G) (sp_aI (sp_fl nb sk)) (F) (known) (top)) A s.heap H locs := hW
        exact hret _ _ _ _ _ (_) dX1_full_30 (rfl) (rfl) hW
      · skip
        exfalso; omega
    | succ n ih =>
      intro i g1 hi_i hg H locs ls hW hl
      refine lv_iload_n hx hb dX1_full_2 rfl (lv_at hl 1 rfl) ?_
      refine lv_iconst (v := nI 4) hx hb dX1_full_3 (by decide) ?_
      refine sp_icmp_ge (a := i) (b := 4) (tgt := 26) hx hb dX1_full_4 (by decide) (by omega) (by omega) (fun c => ?_) (fun c => ?_)
      · skip
        exfalso; omega
      · skip
        have hd1 := hok.dg1 i (by omega)
        refine lv_aload_n hx hb dX1_full_7 rfl (lv_at hl 0 rfl) ?_
        refine sp_get1 hC hW 3 (by decide) q191 rfl (v := .ref (ad 4)) rfl dX1_full_8 ?_
        refine lv_iload_n hx hb dX1_full_11 rfl (lv_at hl 1 rfl) ?_
        refine lv_aload_n hx hb dX1_full_12 rfl (lv_at hl 0 rfl) ?_
        refine lv_iload_n hx hb dX1_full_13 rfl (lv_at hl 1 rfl) ?_
        refine sp_callI (n := 1) (rest := [.int (nI i), .ref (ad 4)]) hC hW (metX1_degreeOf l D ad dc nb sk hok _ _ _ _ _ (i) (by omega)) q235 q237 qs17 q31 q238 rfl rfl rfl (by decide +kernel) ⟨by decide, by decide⟩ rfl hl rfl (Nat.le_of_ble_eq_true rfl) ⟨Nat.zero_le _, Nat.zero_le _⟩ dX1_full_14 (fun r u H locs hp hW => ?_)
        have hp : r = nI (sp_dg (sp_E nb) sk i) := hp
        subst hp
        have hW : sp_Wd D (sp_wY ad dc (sp_aI nb) (sp_aI sk) (G) (g1) (F) (known) (top)) A s.heap H locs := hW
        refine lv_iconst (v := nI 1) hx hb dX1_full_17 (by decide) ?_
        refine lv_isub hx hb dX1_full_18 ?_
        refine sp_top (y := nI (sp_fl nb sk i)) (pk_sub hd1) ?_
        refine sp_iast hC hW 4 3 rfl rfl (k := i) (x := nI (sp_fl nb sk i)) (by omega) (by decide) (fun j => if j = i then nI (sp_fl nb sk i) else g1 j) (fun _ _ => rfl) dX1_full_19 (fun H locs hW => ?_)
        have hW : sp_Wd D (sp_wY ad dc (sp_aI nb) (sp_aI sk) (G) (fun j => if j = i then nI (sp_fl nb sk i) else g1 j) (F) (known) (top)) A s.heap H locs := hW
        refine lv_iinc (v := nI (i + 1)) (lv' := [(1, .int (nI (i + 1))), (0, .ref (ad 0))]) hx hb dX1_full_20 hl (k := 1) rfl (nI_1 _) (by decide) rfl (fun ls hl => ?_)
        refine lv_goto (tgt := 2) hx hb dX1_full_23 (by decide) ?_
        exact ih (i + 1) _ (by omega) (lt_s (fun k hk => by show (if k = i then _ else g1 k) = _; rw [if_neg (by omega)]; exact hg k hk) (by show (if i = i then _ else _) = _; rw [if_pos rfl])) _ _ _ hW (lv_sub hl [1, 0] rfl)
  exact loop 4 0 Wk (by omega) lt_0 _ _ _ hW (lv_sub hl [1, 0] rfl)
end
section
set_option maxRecDepth 100000
abbrev sp_bF (f : Nat → Bool) : Nat → Int32 := fun s => if f s = true then nI 1 else nI 0
def sp_ub (f : Nat → Bool) (y : Nat) : Nat → Bool := fun s => if s = y then true else f s
theorem sp_ub_st {f : Nat → Bool} {y n : Nat} : ∀ j, j < n → (if j = y then nI 1 else sp_bF f j) = sp_bF (sp_ub f y) j := by
  intro j _
  show (if j = y then nI 1 else (if f j = true then nI 1 else nI 0)) = (if (if j = y then true else f j) = true then nI 1 else nI 0)
  by_cases e : j = y
  · rw [if_pos e, if_pos e, if_pos rfl]
  · rw [if_neg e, if_neg e]
theorem sp_ub_at (f : Nat → Bool) (y : Nat) : sp_ub f y y = true := if_pos rfl
theorem sp_ub_ge {f : Nat → Bool} {y s : Nat} (h : f s = true) : sp_ub f y s = true := by
  unfold sp_ub; split
  · rfl
  · exact h
theorem sp_nf {b : Bool} (h : ¬ b = true) : b = false := by cases b <;> simp_all
theorem sp_512 : ∀ i, i < 4 → nI 512 >>> (nI (3 * i) &&& 31) = nI (sp_g1 i) := by decide +kernel
theorem sp_and4095 {y : Nat} (h : y < 4096) : nI y &&& nI 4095 = nI y := by
  rw [pk_andN (m := nI 4095) (by omega) 12 (by decide), Nat.mod_eq_of_lt (by omega)]
theorem sp_nar01 {m : Nat} (h : m ≤ 1) : narrow .boolean (.int (nI m)) = .int (nI m) := by
  rcases (show m = 0 ∨ m = 1 by omega) with rfl | rfl <;> rfl
def sp_sdF (nb sk : Nat → Nat) (f : Nat → Bool) : Prop := ∀ s, s < 4096 → f s = true → sp_RecS nb sk s
def sp_clF (nb sk : Nat → Nat) (f : Nat → Bool) : Prop := ∀ s, s < 4096 → f s = true → ∀ a, a < 4 → f (sp_ad nb sk s (sp_g1 a)) = true
theorem sp_ub_sd {nb sk : Nat → Nat} {f : Nat → Bool} {y : Nat} (h : sp_sdF nb sk f) (hy : sp_RecS nb sk y) : sp_sdF nb sk (sp_ub f y) := by
  intro s hs q
  unfold sp_ub at q
  by_cases e : s = y
  · rw [e]; exact hy
  · rw [if_neg e] at q; exact h s hs q
theorem sp_clF_c {nb sk : Nat → Nat} (hok : sp_Ok nb sk) {f f' : Nat → Bool} (e : ∀ s, s < 4096 → f' s = f s) (h : sp_clF nb sk f) : sp_clF nb sk f' := by
  intro s hs q a ha
  rw [e s hs] at q
  rw [e _ (sp_ad_lt hok _ _)]
  exact h s hs q a ha
def sp_cf (f : Nat → Bool) : Nat := sp_sm 4096 (fun s => if f s = true then 1 else 0)
theorem sp_sm_lt {f f' : Nat → Bool} (h : ∀ s, f s = true → f' s = true) : ∀ n : Nat, (∃ s, s < n ∧ f' s = true ∧ f s = false) → sp_sm n (fun s => if f s = true then 1 else 0) + 1 ≤ sp_sm n (fun s => if f' s = true then 1 else 0) := by
  intro n
  have le : ∀ s, (if f s = true then 1 else 0) ≤ (if f' s = true then 1 else 0) := by
    intro s
    by_cases q : f s = true
    · rw [if_pos q, if_pos (h s q)]; exact Nat.le_refl _
    · rw [if_neg q]; exact Nat.zero_le _
  induction n with
  | zero => rintro ⟨s, hs, -⟩; omega
  | succ n ih =>
    rintro ⟨s, hs, h1, h2⟩
    rw [sp_sm_s, sp_sm_s]
    rcases Nat.lt_or_ge s n with q | q
    · have := ih ⟨s, q, h1, h2⟩
      have := le n
      omega
    · have e : s = n := by omega
      subst e
      have a := sp_sm_le (f := fun s => if f s = true then 1 else 0) (g := fun s => if f' s = true then 1 else 0) (n := s) (fun k _ => le k)
      rw [if_pos h1, if_neg (by rw [h2]; decide)]
      omega
theorem sp_cf_lt {f f' : Nat → Bool} (h : ∀ s, f s = true → f' s = true) (h1 : ∃ s, s < 4096 ∧ f' s = true ∧ f s = false) : sp_cf f + 1 ≤ sp_cf f' := sp_sm_lt h 4096 h1
theorem sp_cf1 {y : Nat} (h : y < 4096) : 0 + 1 ≤ sp_cf (sp_ub (fun _ => false) y) := by
  have := sp_cf_lt (f := fun _ => false) (f' := sp_ub (fun _ => false) y) (fun s q => absurd q (by decide)) ⟨y, h, sp_ub_at _ _, rfl⟩
  omega
theorem sp_found {nb sk : Nat → Nat} (hok : sp_Ok nb sk) {f : Nat → Bool} (h1 : sp_sdF nb sk f) (h2 : f (sp_pk (sp_fl nb sk)) = true) (h3 : sp_clF nb sk f) : ∀ j, j < 4096 → sp_bF f j = sp_bF (sp_rB nb sk) j := by
  intro j hj
  have e : f j = sp_rB nb sk j := by
    cases q : sp_rB nb sk j with
    | true => exact sp_complete hok h2 h3 hj ((sp_rB_iff hok j).mp q)
    | false =>
      cases q2 : f j with
      | false => rfl
      | true => rw [(sp_rB_iff hok j).mpr (h1 j hj q2)] at q; cases q
  show (if f j = true then nI 1 else nI 0) = (if sp_rB nb sk j = true then nI 1 else nI 0)
  rw [e]
def sp_KF (nb sk : Nat → Nat) (known : Int32) (F : Nat → Int32) : Prop := known = nI 0 ∨ (known = nI 1 ∧ ∀ s, s < 4096 → F s = sp_bF (sp_rB nb sk) s)
set_option maxHeartbeats 4000000 in
set_option maxRecDepth 100000 in
/-- spread -/
theorem metX1_spread (l : Launch) (D : va_G) (ad : Nat → Nat) (dc : Nat → ClassId) (nb sk : Nat → Nat) (hok : sp_Ok nb sk) (G Wk : Nat → Int32) (known top : Int32) (f : Nat → Bool) (hf0 : sp_sdF nb sk f) : sp_MI l D (sp_tY dc) yX1_spread cX1_spread 5 .boolean ({ frames := 5, cells := 0, slots := 0, locals := 113 } : Room) [.ref (ad 0)] (sp_wY ad dc (sp_aI nb) (sp_aI sk) (G) (Wk) (sp_bF f) (known) (top)) (S := Nat × (Nat → Bool) × (Nat → Int32) × Int32) (fun r u => r = nI u.1 ∧ u.1 ≤ 1 ∧ sp_sdF nb sk u.2.1 ∧ (∀ s, f s = true → u.2.1 s = true) ∧ (u.1 = 0 → (∀ s, s < 4096 → u.2.1 s = f s) ∧ sp_clF nb sk f) ∧ (1 ≤ u.1 → ∃ s, s < 4096 ∧ u.2.1 s = true ∧ f s = false)) (fun u => sp_wY ad dc (sp_aI nb) (sp_aI sk) (G) (u.2.2.1) (sp_bF u.2.1) (known) (u.2.2.2)) := by
  refine sp_entI (own := RX1) (by decide) rfl (Nat.le_of_ble_eq_true rfl) ?_
  intro pg ev s mi args below meth cd A Q ls hC hW hret hl
  obtain ⟨hx, hb, -⟩ := id hC
  have hl : lv_has ls 5 [(0, .ref (ad 0))] := hl
  refine lv_iconst (v := nI 0) hx hb dX1_spread_0 (by decide) ?_
  refine lv_istore_n (lv' := [(1, .int (nI 0)), (0, .ref (ad 0))]) hx hb dX1_spread_1 rfl hl (by decide) rfl (fun ls hl => ?_)
  refine lv_sipush (v := nI 4095) hx hb dX1_spread_2 (by decide) ?_
  refine lv_istore_n (lv' := [(2, .int (nI 4095)), (1, .int (nI 0)), (0, .ref (ad 0))]) hx hb dX1_spread_5 rfl hl (by decide) rfl (fun ls hl => ?_)
  have lo : ∀ (n : Nat) (f1 : Nat → Bool) (W1 : Nat → Int32) (t1 : Int32) (mv : Nat), n ≤ 4096 → mv ≤ 1 → sp_sdF nb sk f1 → (∀ s, f s = true → f1 s = true) → (mv = 0 → (∀ s, s < 4096 → f1 s = f s) ∧ ∀ s, s < 4096 → n ≤ s → f s = true → ∀ a, a < 4 → f (sp_ad nb sk s (sp_g1 a)) = true) → (1 ≤ mv → ∃ s, s < 4096 ∧ f1 s = true ∧ f s = false) → ∀ (H : Heap) (locs : List Loc) (ls : Array Slot), sp_Wd D (sp_wY ad dc (sp_aI nb) (sp_aI sk) (G) (W1) (sp_bF f1) (known) (t1)) A s.heap H locs → lv_has ls 5 [(0, .ref (ad 0)), (1, .int (nI mv)), (2, .int (nI n + (-1)))] → W pg l ev ({ frames := 5, cells := 0, slots := 0, locals := 113 } : Room) s mi args below meth cd H locs 0 0 Q (F0 mi 6 ls []) := by
    intro n
    induction n with
    | zero =>
      intro f1 W1 t1 mv hm_n hm1 hs1 hg1 h01 h11 H locs ls hW hl
      refine lv_iload_n hx hb dX1_spread_6 rfl (lv_at hl 2 rfl) ?_
      refine lv_if_lt (tgt := 93) hx hb dX1_spread_7 (by decide) (fun c => ?_) (fun c => ?_)
      · skip
        refine lv_iload_n hx hb dX1_spread_93 rfl (lv_at hl 1 rfl) ?_
        exact hret _ _ _ _ _ ((mv, f1, W1, t1)) dX1_spread_94 (sp_nar01 hm1) (⟨rfl, hm1, hs1, hg1, fun q => ⟨(h01 q).1, fun s hs hfs => (h01 q).2 s hs (by omega) hfs⟩, h11⟩) hW
      · skip
        exact absurd (by decide : nI 0 + (-1) < 0) c
    | succ n iho =>
      intro f1 W1 t1 mv hm_n hm1 hs1 hg1 h01 h11 H locs ls hW hl
      have hl : lv_has ls 5 [(0, .ref (ad 0)), (1, .int (nI mv)), (2, .int (nI n))] := by
        have h9 := hl
        rw [pk_m1 n] at h9
        exact h9
      refine lv_iload_n hx hb dX1_spread_6 rfl (lv_at hl 2 rfl) ?_
      refine lv_if_lt (tgt := 93) hx hb dX1_spread_7 (by decide) (fun c => ?_) (fun c => ?_)
      · skip
        exact absurd c (nI_pos (by omega))
      · skip
        refine lv_iconst (v := nI 0) hx hb dX1_spread_10 (by decide) ?_
        refine lv_istore_n (lv' := [(3, .int (nI 0)), (0, .ref (ad 0)), (1, .int (nI mv)), (2, .int (nI n))]) hx hb dX1_spread_11 rfl hl (by decide) rfl (fun ls hl => ?_)
        have li : ∀ (m i : Nat) (f2 : Nat → Bool) (W2 : Nat → Int32) (t2 : Int32) (mv2 : Nat), i + m = 4 → mv2 ≤ 1 → sp_sdF nb sk f2 → (∀ s, f s = true → f2 s = true) → (mv2 = 0 → (∀ s, s < 4096 → f2 s = f s) ∧ (∀ s, s < 4096 → n + 1 ≤ s → f s = true → ∀ a, a < 4 → f (sp_ad nb sk s (sp_g1 a)) = true) ∧ (f n = true → ∀ a, a < i → f (sp_ad nb sk n (sp_g1 a)) = true)) → (1 ≤ mv2 → ∃ s, s < 4096 ∧ f2 s = true ∧ f s = false) → ∀ (H : Heap) (locs : List Loc) (ls : Array Slot), sp_Wd D (sp_wY ad dc (sp_aI nb) (sp_aI sk) (G) (W2) (sp_bF f2) (known) (t2)) A s.heap H locs → lv_has ls 5 [(0, .ref (ad 0)), (1, .int (nI mv2)), (2, .int (nI n)), (3, .int (nI i))] → W pg l ev ({ frames := 5, cells := 0, slots := 0, locals := 113 } : Room) s mi args below meth cd H locs 0 0 Q (F0 mi 12 ls []) := by
          intro m
          induction m with
          | zero =>
            intro i f2 W2 t2 mv2 hi_i hm2 hs2 hg2 h02 h12 H locs ls hW hl
            refine lv_iload_n hx hb dX1_spread_12 rfl (lv_at hl 3 rfl) ?_
            refine lv_iconst (v := nI 4) hx hb dX1_spread_13 (by decide) ?_
            refine sp_icmp_ge (a := i) (b := 4) (tgt := 87) hx hb dX1_spread_14 (by decide) (by omega) (by omega) (fun c => ?_) (fun c => ?_)
            · skip
              have e4 : i = 4 := by omega
              subst e4
              refine lv_iinc (v := nI n + (-1)) (lv' := [(2, .int (nI n + (-1))), (0, .ref (ad 0)), (1, .int (nI mv2)), (3, .int (nI 4))]) hx hb dX1_spread_87 hl (k := 2) rfl (congrArg (nI n + ·) (by decide : Int32.ofInt (-1) = -1)) (by decide) rfl (fun ls hl => ?_)
              refine lv_goto (tgt := 6) hx hb dX1_spread_90 (by decide) ?_
              exact iho f2 W2 t2 mv2 (by omega) hm2 hs2 hg2 (fun q => ⟨(h02 q).1, fun s hs hns hfs => by
                rcases Nat.lt_or_ge n s with z | z
                · exact (h02 q).2.1 s hs z hfs
                · have e : s = n := by omega
                  subst e; exact (h02 q).2.2 hfs⟩) h12 _ _ _ hW (lv_sub hl [1, 2, 0] rfl)
            · skip
              exfalso; omega
          | succ m ihi =>
            intro i f2 W2 t2 mv2 hi_i hm2 hs2 hg2 h02 h12 H locs ls hW hl
            refine lv_iload_n hx hb dX1_spread_12 rfl (lv_at hl 3 rfl) ?_
            refine lv_iconst (v := nI 4) hx hb dX1_spread_13 (by decide) ?_
            refine sp_icmp_ge (a := i) (b := 4) (tgt := 87) hx hb dX1_spread_14 (by decide) (by omega) (by omega) (fun c => ?_) (fun c => ?_)
            · skip
              exfalso; omega
            · skip
              refine lv_aload_n hx hb dX1_spread_17 rfl (lv_at hl 0 rfl) ?_
              refine sp_get1 hC hW 4 (by decide) q192 rfl (v := .ref (ad 5)) rfl dX1_spread_18 ?_
              refine lv_iload_n hx hb dX1_spread_21 rfl (lv_at hl 2 rfl) ?_
              refine sp_zald hC hW 5 4 rfl rfl (k := n) (v := (sp_bF f2) (n)) (by omega) (by decide) rfl dX1_spread_22 ?_
              by_cases hf : f2 n = true
              · skip
                refine sp_top (y := nI 1) (if_pos hf) ?_
                refine sp_if_eq (a := 1) (tgt := 41) hx hb dX1_spread_23 (by decide) (by omega) (fun cK => ?_) (fun cK => ?_)
                · skip
                  exfalso; omega
                · skip
                  refine lv_aload_n hx hb dX1_spread_26 rfl (lv_at hl 0 rfl) ?_
                  refine lv_iload_n hx hb dX1_spread_27 rfl (lv_at hl 2 rfl) ?_
                  refine lv_sipush (v := nI 512) hx hb dX1_spread_28 (by decide) ?_
                  refine lv_iconst (v := nI 3) hx hb dX1_spread_31 (by decide) ?_
                  refine lv_iload_n hx hb dX1_spread_32 rfl (lv_at hl 3 rfl) ?_
                  refine lv_imul hx hb dX1_spread_33 ?_
                  refine sp_top (y := nI (3 * i)) (pk_mul _ _) ?_
                  refine lv_ishr hx hb dX1_spread_34 ?_
                  refine sp_top (y := nI (sp_g1 i)) (sp_512 i (by omega)) ?_
                  refine sp_callI (n := 2) (rest := []) hC hW (metX1_sum l D ad dc nb sk hok _ _ _ _ _ (n) (sp_g1 i) (by omega) (sp_g1_lt i (by omega))) q291 q293 qs27 q31 q294 rfl rfl rfl (by decide +kernel) ⟨by decide, by decide⟩ rfl hl rfl (Nat.le_of_ble_eq_true rfl) ⟨Nat.zero_le _, Nat.zero_le _⟩ dX1_spread_35 (fun r u H locs hp hW => ?_)
                  have hp : r = nI (sp_ad nb sk n (sp_g1 i)) := hp
                  subst hp
                  obtain ⟨W3, t3⟩ := u
                  have hW : sp_Wd D (sp_wY ad dc (sp_aI nb) (sp_aI sk) (G) (W3) (sp_bF f2) (known) (t3)) A s.heap H locs := hW
                  obtain ⟨y, hy⟩ : ∃ y, y = sp_ad nb sk n (sp_g1 i) := ⟨_, rfl⟩
                  rw [← hy]
                  have hyl : y < 4096 := by rw [hy]; exact sp_ad_lt hok _ _
                  have hyr : sp_RecS nb sk y := by rw [hy]; exact sp_ad_Rec hok (hs2 n (by omega) hf)
                  refine lv_goto (tgt := 42) hx hb dX1_spread_38 (by decide) ?_
                  refine lv_istore (lv' := [(4, .int (nI y)), (0, .ref (ad 0)), (1, .int (nI mv2)), (2, .int (nI n)), (3, .int (nI i))]) hx hb dX1_spread_42 hl (by decide) rfl (fun ls hl => ?_)
                  refine lv_aload_n hx hb dX1_spread_44 rfl (lv_at hl 1 rfl) ?_
                  refine sp_get1 hC hW 4 (by decide) q192 rfl (v := .ref (ad 5)) rfl dX1_spread_45 ?_
                  refine lv_iload_n hx hb dX1_spread_48 rfl (lv_at hl 3 rfl) ?_
                  refine sp_zald hC hW 5 4 rfl rfl (k := n) (v := (sp_bF f2) (n)) (by omega) (by decide) rfl dX1_spread_49 ?_
                  refine sp_top (y := nI 1) (if_pos hf) ?_
                  refine sp_if_eq (a := 1) (tgt := 81) hx hb dX1_spread_50 (by decide) (by omega) (fun cK => ?_) (fun cK => ?_)
                  · skip
                    exfalso; omega
                  · skip
                    refine lv_aload_n hx hb dX1_spread_53 rfl (lv_at hl 1 rfl) ?_
                    refine sp_get1 hC hW 4 (by decide) q192 rfl (v := .ref (ad 5)) rfl dX1_spread_54 ?_
                    refine lv_iload hx hb dX1_spread_57 (lv_at hl 0 rfl) ?_
                    refine lv_sipush (v := nI 4095) hx hb dX1_spread_59 (by decide) ?_
                    refine lv_iand hx hb dX1_spread_62 ?_
                    refine sp_top (y := nI y) (sp_and4095 hyl) ?_
                    refine sp_zald hC hW 5 4 rfl rfl (k := y) (v := (sp_bF f2) (y)) (by omega) (by decide) rfl dX1_spread_63 ?_
                    by_cases hfy : f2 y = true
                    · skip
                      refine sp_top (y := nI 1) (if_pos hfy) ?_
                      refine sp_if_ne (a := 1) (tgt := 81) hx hb dX1_spread_64 (by decide) (by omega) (fun cK => ?_) (fun cK => ?_)
                      · skip
                        refine lv_iinc (v := nI (i + 1)) (lv' := [(3, .int (nI (i + 1))), (4, .int (nI y)), (0, .ref (ad 0)), (1, .int (nI mv2)), (2, .int (nI n))]) hx hb dX1_spread_81 hl (k := 4) rfl (nI_1 _) (by decide) rfl (fun ls hl => ?_)
                        refine lv_goto (tgt := 12) hx hb dX1_spread_84 (by decide) ?_
                        exact ihi (i + 1) f2 W3 t3 mv2 (by omega) hm2 hs2 hg2 (fun q => ⟨(h02 q).1, (h02 q).2.1, fun hfn => lt_s ((h02 q).2.2 hfn) (by rw [← hy, ← (h02 q).1 y hyl]; exact hfy)⟩) h12 _ _ _ hW (lv_sub hl [2, 3, 4, 0] rfl)
                      · skip
                        exfalso; omega
                    · skip
                      refine sp_top (y := nI 0) (if_neg hfy) ?_
                      refine sp_if_ne (a := 0) (tgt := 81) hx hb dX1_spread_64 (by decide) (by omega) (fun cK => ?_) (fun cK => ?_)
                      · skip
                        exfalso; omega
                      · skip
                        refine lv_aload_n hx hb dX1_spread_67 rfl (lv_at hl 1 rfl) ?_
                        refine sp_get1 hC hW 4 (by decide) q192 rfl (v := .ref (ad 5)) rfl dX1_spread_68 ?_
                        refine lv_iload hx hb dX1_spread_71 (lv_at hl 0 rfl) ?_
                        refine lv_sipush (v := nI 4095) hx hb dX1_spread_73 (by decide) ?_
                        refine lv_iand hx hb dX1_spread_76 ?_
                        refine sp_top (y := nI y) (sp_and4095 hyl) ?_
                        refine lv_iconst (v := nI 1) hx hb dX1_spread_77 (by decide) ?_
                        refine sp_zast hC hW 5 4 rfl rfl (k := y) (x := nI 1) (by omega) (by decide) (by decide) (sp_bF (sp_ub f2 y)) (sp_ub_st) dX1_spread_78 (fun H locs hW => ?_)
                        have hW : sp_Wd D (sp_wY ad dc (sp_aI nb) (sp_aI sk) (G) (W3) (sp_bF (sp_ub f2 y)) (known) (t3)) A s.heap H locs := hW
                        refine lv_iconst (v := nI 1) hx hb dX1_spread_79 (by decide) ?_
                        refine lv_istore_n (lv' := [(1, .int (nI 1)), (4, .int (nI y)), (0, .ref (ad 0)), (2, .int (nI n)), (3, .int (nI i))]) hx hb dX1_spread_80 rfl hl (by decide) rfl (fun ls hl => ?_)
                        refine lv_iinc (v := nI (i + 1)) (lv' := [(3, .int (nI (i + 1))), (1, .int (nI 1)), (4, .int (nI y)), (0, .ref (ad 0)), (2, .int (nI n))]) hx hb dX1_spread_81 hl (k := 4) rfl (nI_1 _) (by decide) rfl (fun ls hl => ?_)
                        refine lv_goto (tgt := 12) hx hb dX1_spread_84 (by decide) ?_
                        exact ihi (i + 1) (sp_ub f2 y) W3 t3 1 (by omega) (by omega) (sp_ub_sd hs2 hyr) (fun s q => sp_ub_ge (hg2 s q)) (fun q => by omega) (fun _ => ⟨y, hyl, sp_ub_at f2 y, sp_nf (fun q => hfy (hg2 y q))⟩) _ _ _ hW (lv_sub hl [3, 1, 4, 0] rfl)
              · skip
                refine sp_top (y := nI 0) (if_neg hf) ?_
                refine sp_if_eq (a := 0) (tgt := 41) hx hb dX1_spread_23 (by decide) (by omega) (fun cK => ?_) (fun cK => ?_)
                · skip
                  refine lv_iload_n hx hb dX1_spread_41 rfl (lv_at hl 2 rfl) ?_
                  refine lv_istore (lv' := [(4, .int (nI n)), (0, .ref (ad 0)), (1, .int (nI mv2)), (2, .int (nI n)), (3, .int (nI i))]) hx hb dX1_spread_42 hl (by decide) rfl (fun ls hl => ?_)
                  refine lv_aload_n hx hb dX1_spread_44 rfl (lv_at hl 1 rfl) ?_
                  refine sp_get1 hC hW 4 (by decide) q192 rfl (v := .ref (ad 5)) rfl dX1_spread_45 ?_
                  refine lv_iload_n hx hb dX1_spread_48 rfl (lv_at hl 3 rfl) ?_
                  refine sp_zald hC hW 5 4 rfl rfl (k := n) (v := (sp_bF f2) (n)) (by omega) (by decide) rfl dX1_spread_49 ?_
                  refine sp_top (y := nI 0) (if_neg hf) ?_
                  refine sp_if_eq (a := 0) (tgt := 81) hx hb dX1_spread_50 (by decide) (by omega) (fun cK => ?_) (fun cK => ?_)
                  · skip
                    refine lv_iinc (v := nI (i + 1)) (lv' := [(3, .int (nI (i + 1))), (4, .int (nI n)), (0, .ref (ad 0)), (1, .int (nI mv2)), (2, .int (nI n))]) hx hb dX1_spread_81 hl (k := 4) rfl (nI_1 _) (by decide) rfl (fun ls hl => ?_)
                    refine lv_goto (tgt := 12) hx hb dX1_spread_84 (by decide) ?_
                    exact ihi (i + 1) f2 W2 t2 mv2 (by omega) hm2 hs2 hg2 (fun q => ⟨(h02 q).1, (h02 q).2.1, fun hfn => lt_s ((h02 q).2.2 hfn) (absurd (hg2 n hfn) hf)⟩) h12 _ _ _ hW (lv_sub hl [2, 3, 4, 0] rfl)
                  · skip
                    exfalso; omega
                · skip
                  exfalso; omega
        exact li 4 0 f1 W1 t1 mv (by omega) hm1 hs1 hg1 (fun q => ⟨(h01 q).1, (h01 q).2, fun _ => lt_0⟩) h11 _ _ _ hW (lv_sub hl [1, 2, 3, 0] rfl)
  have e49 : nI 4096 + (-1) = nI 4095 := by decide
  exact lo 4096 f Wk top 0 (by omega) (by omega) hf0 (fun _ q => q) (fun _ => ⟨fun _ _ => rfl, fun s h1 h2 => by omega⟩) (fun q => by omega) _ _ _ hW (by rw [e49]; exact lv_sub hl [2, 1, 0] rfl)
set_option maxHeartbeats 4000000 in
set_option maxRecDepth 100000 in
/-- findRecurrent -/
theorem metX1_findRecurrent (l : Launch) (D : va_G) (ad : Nat → Nat) (dc : Nat → ClassId) (nb sk : Nat → Nat) (hok : sp_Ok nb sk) (G Wk F : Nat → Int32) (known top : Int32) (hk : sp_KF nb sk known F) : sp_MV l D (sp_tY dc) yX1_findRecurrent cX1_findRecurrent 4 ({ frames := 6, cells := 0, slots := 0, locals := 137 } : Room) [.ref (ad 0)] (sp_wY ad dc (sp_aI nb) (sp_aI sk) (G) (Wk) (F) (known) (top)) (S := (Nat → Int32) × Int32) (fun _ => True) (fun u => sp_wY ad dc (sp_aI nb) (sp_aI sk) (G) (u.1) (sp_bF (sp_rB nb sk)) (nI 1) (u.2)) := by
  refine sp_entV (own := RX1) (by decide) rfl (Nat.le_of_ble_eq_true rfl) ?_
  intro pg ev s mi args below meth cd A Q ls hC hW hret hl
  obtain ⟨hx, hb, -⟩ := id hC
  have hl : lv_has ls 4 [(0, .ref (ad 0))] := hl
  rcases hk with rfl | ⟨rfl, hF⟩
  · skip
    refine lv_aload_n hx hb dX1_findRecurrent_0 rfl (lv_at hl 0 rfl) ?_
    refine sp_get1 hC hW 5 (by decide) q193 rfl (v := .int (nI 0)) rfl dX1_findRecurrent_1 ?_
    refine sp_if_eq (a := 0) (tgt := 8) hx hb dX1_findRecurrent_4 (by decide) (by omega) (fun cK => ?_) (fun cK => ?_)
    · skip
      refine lv_iconst (v := nI 0) hx hb dX1_findRecurrent_8 (by decide) ?_
      refine lv_istore_n (lv' := [(1, .int (nI 0)), (0, .ref (ad 0))]) hx hb dX1_findRecurrent_9 rfl hl (by decide) rfl (fun ls hl => ?_)
      have lc : ∀ (nc i : Nat) (g1 : Nat → Int32), i + nc = 4096 → (∀ k, k < i → g1 k = nI 0) → ∀ (H : Heap) (locs : List Loc) (ls : Array Slot), sp_Wd D (sp_wY ad dc (sp_aI nb) (sp_aI sk) (G) (Wk) (g1) (nI 0) (top)) A s.heap H locs → lv_has ls 4 [(0, .ref (ad 0)), (1, .int (nI i))] → W pg l ev ({ frames := 6, cells := 0, slots := 0, locals := 137 } : Room) s mi args below meth cd H locs 0 0 Q (F0 mi 10 ls []) := by
        intro nc
        induction nc with
        | zero =>
          intro i g1 hi_i hg H locs ls hW hl
          refine lv_iload_n hx hb dX1_findRecurrent_10 rfl (lv_at hl 1 rfl) ?_
          refine lv_sipush (v := nI 4096) hx hb dX1_findRecurrent_11 (by decide) ?_
          refine sp_icmp_ge (a := i) (b := 4096) (tgt := 30) hx hb dX1_findRecurrent_14 (by decide) (by omega) (by omega) (fun c => ?_) (fun c => ?_)
          · skip
            have hW := hW.arr 5 rfl (sp_bF (fun _ => false)) (fun j hj => hg j (by omega))
            have hW : sp_Wd D (sp_wY ad dc (sp_aI nb) (sp_aI sk) (G) (Wk) (sp_bF (fun _ => false)) (nI 0) (top)) A s.heap H locs := hW
            refine lv_aload_n hx hb dX1_findRecurrent_30 rfl (lv_at hl 0 rfl) ?_
            refine sp_callI (n := 0) (rest := []) hC hW (metX1_full l D ad dc nb sk hok _ _ _ _ _) q279 q281 qs24 q31 q282 rfl rfl rfl (by decide +kernel) ⟨by decide, by decide⟩ rfl hl rfl (Nat.le_of_ble_eq_true rfl) ⟨Nat.zero_le _, Nat.zero_le _⟩ dX1_findRecurrent_31 (fun r W1 H locs hp hW => ?_)
            have hp : r = nI (sp_pk (sp_fl nb sk)) := hp
            subst hp
            have hW : sp_Wd D (sp_wY ad dc (sp_aI nb) (sp_aI sk) (G) (W1) (sp_bF (fun _ => false)) (nI 0) (top)) A s.heap H locs := hW
            have hfl := sp_pk_lt (sp_fl8 hok)
            refine lv_istore_n (lv' := [(1, .int (nI (sp_pk (sp_fl nb sk)))), (0, .ref (ad 0))]) hx hb dX1_findRecurrent_34 rfl hl (by decide) rfl (fun ls hl => ?_)
            refine lv_aload_n hx hb dX1_findRecurrent_35 rfl (lv_at hl 1 rfl) ?_
            refine sp_get1 hC hW 4 (by decide) q192 rfl (v := .ref (ad 5)) rfl dX1_findRecurrent_36 ?_
            refine lv_iload_n hx hb dX1_findRecurrent_39 rfl (lv_at hl 0 rfl) ?_
            refine lv_sipush (v := nI 4095) hx hb dX1_findRecurrent_40 (by decide) ?_
            refine lv_iand hx hb dX1_findRecurrent_43 ?_
            refine sp_top (y := nI (sp_pk (sp_fl nb sk))) (sp_and4095 hfl) ?_
            refine lv_iconst (v := nI 1) hx hb dX1_findRecurrent_44 (by decide) ?_
            refine sp_zast hC hW 5 4 rfl rfl (k := sp_pk (sp_fl nb sk)) (x := nI 1) (by omega) (by decide) (by decide) (sp_bF (sp_ub (fun _ => false) (sp_pk (sp_fl nb sk)))) (sp_ub_st) dX1_findRecurrent_45 (fun H locs hW => ?_)
            have hW : sp_Wd D (sp_wY ad dc (sp_aI nb) (sp_aI sk) (G) (W1) (sp_bF (sp_ub (fun _ => false) (sp_pk (sp_fl nb sk)))) (nI 0) (top)) A s.heap H locs := hW
            refine lv_iconst (v := nI 1) hx hb dX1_findRecurrent_46 (by decide) ?_
            refine lv_istore_n (lv' := [(2, .int (nI 1)), (1, .int (nI (sp_pk (sp_fl nb sk)))), (0, .ref (ad 0))]) hx hb dX1_findRecurrent_47 rfl hl (by decide) rfl (fun ls hl => ?_)
            refine lv_iconst (v := nI 0) hx hb dX1_findRecurrent_48 (by decide) ?_
            refine lv_istore_n (lv' := [(3, .int (nI 0)), (2, .int (nI 1)), (1, .int (nI (sp_pk (sp_fl nb sk)))), (0, .ref (ad 0))]) hx hb dX1_findRecurrent_49 rfl hl (by decide) rfl (fun ls hl => ?_)
            have lr : ∀ (nr j : Nat) (f1 : Nat → Bool) (W2 : Nat → Int32) (t2 : Int32) (mv : Nat), j + nr = 626 → mv ≤ 1 → sp_sdF nb sk f1 → f1 (sp_pk (sp_fl nb sk)) = true → (mv = 0 → sp_clF nb sk f1) → (1 ≤ mv → j + 1 ≤ sp_cf f1) → ∀ (H : Heap) (locs : List Loc) (ls : Array Slot), sp_Wd D (sp_wY ad dc (sp_aI nb) (sp_aI sk) (G) (W2) (sp_bF f1) (nI 0) (t2)) A s.heap H locs → lv_has ls 4 [(0, .ref (ad 0)), (2, .int (nI mv)), (3, .int (nI j))] → W pg l ev ({ frames := 6, cells := 0, slots := 0, locals := 137 } : Room) s mi args below meth cd H locs 0 0 Q (F0 mi 50 ls []) := by
              intro nr
              induction nr with
              | zero =>
                intro j f1 W2 t2 mv hi_j hm1 hs1 hf1 h01 h11 H locs ls hW hl
                refine lv_iload_n hx hb dX1_findRecurrent_50 rfl (lv_at hl 2 rfl) ?_
                refine lv_sipush (v := nI 626) hx hb dX1_findRecurrent_51 (by decide) ?_
                refine sp_icmp_ge (a := j) (b := 626) (tgt := 72) hx hb dX1_findRecurrent_54 (by decide) (by omega) (by omega) (fun c => ?_) (fun c => ?_)
                · skip
                  have hcl : sp_clF nb sk f1 := h01 (by rcases Nat.eq_zero_or_pos mv with q | q; exact q; exact absurd (h11 q) (by have := sp_sm_le625 hok (f := f1) (fun s hs h => (hs1 s hs h).1); unfold sp_cf; omega))
                  refine lv_aload_n hx hb dX1_findRecurrent_72 rfl (lv_at hl 0 rfl) ?_
                  refine lv_iconst (v := nI 1) hx hb dX1_findRecurrent_73 (by decide) ?_
                  have hW := hW.arr 5 rfl (sp_bF (sp_rB nb sk)) (fun j hj => sp_found hok hs1 hf1 hcl j hj)
                  have hW : sp_Wd D (sp_wY ad dc (sp_aI nb) (sp_aI sk) (G) (W2) (sp_bF (sp_rB nb sk)) (nI 0) (t2)) A s.heap H locs := hW
                  refine sp_put1 hC hW 5 (by decide) q193 rfl rfl (ty := .boolean) (v := .int (nI 1)) (by decide +kernel) (by decide) (by decide) (Nat.le_of_ble_eq_true rfl) dX1_findRecurrent_74 (fun H locs hW => ?_)
                  have hW : sp_Wd D (sp_wY ad dc (sp_aI nb) (sp_aI sk) (G) (W2) (sp_bF (sp_rB nb sk)) (nI 1) (t2)) A s.heap H locs := hW
                  exact hret _ _ _ _ ((W2, t2)) dX1_findRecurrent_77 (trivial) hW
                · skip
                  exfalso; omega
              | succ nr ihr =>
                intro j f1 W2 t2 mv hi_j hm1 hs1 hf1 h01 h11 H locs ls hW hl
                refine lv_iload_n hx hb dX1_findRecurrent_50 rfl (lv_at hl 2 rfl) ?_
                refine lv_sipush (v := nI 626) hx hb dX1_findRecurrent_51 (by decide) ?_
                refine sp_icmp_ge (a := j) (b := 626) (tgt := 72) hx hb dX1_findRecurrent_54 (by decide) (by omega) (by omega) (fun c => ?_) (fun c => ?_)
                · skip
                  exfalso; omega
                · skip
                  refine lv_iload_n hx hb dX1_findRecurrent_57 rfl (lv_at hl 1 rfl) ?_
                  refine sp_if_eq (a := mv) (tgt := 72) hx hb dX1_findRecurrent_58 (by decide) (by omega) (fun cm => ?_) (fun cm => ?_)
                  · skip
                    have hcl := h01 cm
                    refine lv_aload_n hx hb dX1_findRecurrent_72 rfl (lv_at hl 0 rfl) ?_
                    refine lv_iconst (v := nI 1) hx hb dX1_findRecurrent_73 (by decide) ?_
                    have hW := hW.arr 5 rfl (sp_bF (sp_rB nb sk)) (fun j hj => sp_found hok hs1 hf1 hcl j hj)
                    have hW : sp_Wd D (sp_wY ad dc (sp_aI nb) (sp_aI sk) (G) (W2) (sp_bF (sp_rB nb sk)) (nI 0) (t2)) A s.heap H locs := hW
                    refine sp_put1 hC hW 5 (by decide) q193 rfl rfl (ty := .boolean) (v := .int (nI 1)) (by decide +kernel) (by decide) (by decide) (Nat.le_of_ble_eq_true rfl) dX1_findRecurrent_74 (fun H locs hW => ?_)
                    have hW : sp_Wd D (sp_wY ad dc (sp_aI nb) (sp_aI sk) (G) (W2) (sp_bF (sp_rB nb sk)) (nI 1) (t2)) A s.heap H locs := hW
                    exact hret _ _ _ _ ((W2, t2)) dX1_findRecurrent_77 (trivial) hW
                  · skip
                    refine lv_aload_n hx hb dX1_findRecurrent_61 rfl (lv_at hl 0 rfl) ?_
                    refine sp_callI (n := 0) (rest := []) hC hW (metX1_spread l D ad dc nb sk hok _ _ _ _ f1 hs1) q287 q289 qs26 q31 q290 rfl rfl rfl (by decide +kernel) ⟨by decide, by decide⟩ rfl hl rfl (Nat.le_of_ble_eq_true rfl) ⟨Nat.zero_le _, Nat.zero_le _⟩ dX1_findRecurrent_62 (fun r u H locs hp hW => ?_)
                    obtain ⟨mv3, f3, W3, t3⟩ := u
                    obtain ⟨hp, hm3, hs3, hg3, h03, h13⟩ := hp
                    have hp : r = nI mv3 := hp
                    subst hp
                    have hW : sp_Wd D (sp_wY ad dc (sp_aI nb) (sp_aI sk) (G) (W3) (sp_bF f3) (nI 0) (t3)) A s.heap H locs := hW
                    refine lv_istore_n (lv' := [(2, .int (nI mv3)), (0, .ref (ad 0)), (3, .int (nI j))]) hx hb dX1_findRecurrent_65 rfl hl (by decide) rfl (fun ls hl => ?_)
                    refine lv_iinc (v := nI (j + 1)) (lv' := [(3, .int (nI (j + 1))), (2, .int (nI mv3)), (0, .ref (ad 0))]) hx hb dX1_findRecurrent_66 hl (k := 2) rfl (nI_1 _) (by decide) rfl (fun ls hl => ?_)
                    refine lv_goto (tgt := 50) hx hb dX1_findRecurrent_69 (by decide) ?_
                    have h23 := h11 (by omega)
                    exact ihr (j + 1) f3 W3 t3 mv3 (by omega) hm3 hs3 (hg3 _ hf1) (fun q => sp_clF_c hok (h03 q).1 (h03 q).2) (fun q => by have := sp_cf_lt (f' := f3) hg3 (h13 q); omega) _ _ _ hW (lv_sub hl [2, 1, 0] rfl)
            exact lr 626 0 (sp_ub (fun _ => false) (sp_pk (sp_fl nb sk))) W1 top 1 (by omega) (by omega) (sp_ub_sd (fun s _ q => absurd q (by decide)) (sp_fl_Rec hok)) (sp_ub_at _ _) (fun q => by omega) (fun _ => sp_cf1 hfl) _ _ _ hW (lv_sub hl [3, 1, 0] rfl)
          · skip
            exfalso; omega
        | succ nc ihc =>
          intro i g1 hi_i hg H locs ls hW hl
          refine lv_iload_n hx hb dX1_findRecurrent_10 rfl (lv_at hl 1 rfl) ?_
          refine lv_sipush (v := nI 4096) hx hb dX1_findRecurrent_11 (by decide) ?_
          refine sp_icmp_ge (a := i) (b := 4096) (tgt := 30) hx hb dX1_findRecurrent_14 (by decide) (by omega) (by omega) (fun c => ?_) (fun c => ?_)
          · skip
            exfalso; omega
          · skip
            refine lv_aload_n hx hb dX1_findRecurrent_17 rfl (lv_at hl 0 rfl) ?_
            refine sp_get1 hC hW 4 (by decide) q192 rfl (v := .ref (ad 5)) rfl dX1_findRecurrent_18 ?_
            refine lv_iload_n hx hb dX1_findRecurrent_21 rfl (lv_at hl 1 rfl) ?_
            refine lv_iconst (v := nI 0) hx hb dX1_findRecurrent_22 (by decide) ?_
            refine sp_zast hC hW 5 4 rfl rfl (k := i) (x := nI 0) (by omega) (by decide) (by decide) (fun j => if j = i then nI 0 else g1 j) (fun _ _ => rfl) dX1_findRecurrent_23 (fun H locs hW => ?_)
            have hW : sp_Wd D (sp_wY ad dc (sp_aI nb) (sp_aI sk) (G) (Wk) (fun j => if j = i then nI 0 else g1 j) (nI 0) (top)) A s.heap H locs := hW
            refine lv_iinc (v := nI (i + 1)) (lv' := [(1, .int (nI (i + 1))), (0, .ref (ad 0))]) hx hb dX1_findRecurrent_24 hl (k := 1) rfl (nI_1 _) (by decide) rfl (fun ls hl => ?_)
            refine lv_goto (tgt := 10) hx hb dX1_findRecurrent_27 (by decide) ?_
            exact ihc (i + 1) _ (by omega) (lt_s (fun k hk => by show (if k = i then _ else g1 k) = _; rw [if_neg (by omega)]; exact hg k hk) (by show (if i = i then _ else _) = _; rw [if_pos rfl])) _ _ _ hW (lv_sub hl [1, 0] rfl)
      exact lc 4096 0 F (by omega) lt_0 _ _ _ hW (lv_sub hl [1, 0] rfl)
    · skip
      exfalso; omega
  · skip
    have hW := hW.arr 5 rfl (sp_bF (sp_rB nb sk)) (fun j hj => hF j hj)
    have hW : sp_Wd D (sp_wY ad dc (sp_aI nb) (sp_aI sk) (G) (Wk) (sp_bF (sp_rB nb sk)) (nI 1) (top)) A s.heap s.heap [] := hW
    refine lv_aload_n hx hb dX1_findRecurrent_0 rfl (lv_at hl 0 rfl) ?_
    refine sp_get1 hC hW 5 (by decide) q193 rfl (v := .int (nI 1)) rfl dX1_findRecurrent_1 ?_
    refine sp_if_eq (a := 1) (tgt := 8) hx hb dX1_findRecurrent_4 (by decide) (by omega) (fun cK => ?_) (fun cK => ?_)
    · skip
      exfalso; omega
    · skip
      exact hret _ _ _ _ ((_, _)) dX1_findRecurrent_7 (trivial) hW
set_option maxHeartbeats 4000000 in
set_option maxRecDepth 100000 in
/-- isRecurrent -/
theorem metX1_isRecurrent (l : Launch) (D : va_G) (ad : Nat → Nat) (dc : Nat → ClassId) (nb sk : Nat → Nat) (hok : sp_Ok nb sk) (G Wk F : Nat → Int32) (known top : Int32) (hk : sp_KF nb sk known F) (x : Int32) : sp_MI l D (sp_tY dc) yX1_isRecurrent cX1_isRecurrent 2 .boolean ({ frames := 7, cells := 0, slots := 0, locals := 160 } : Room) [.ref (ad 0), .int x] (sp_wY ad dc (sp_aI nb) (sp_aI sk) (G) (Wk) (F) (known) (top)) (S := (Nat → Int32) × Int32) (fun r _ => sp_QB (sp_isR nb sk x) r) (fun u => sp_wY ad dc (sp_aI nb) (sp_aI sk) (G) (u.1) (sp_bF (sp_rB nb sk)) (nI 1) (u.2)) := by
  refine sp_entI (own := RX1) (by decide) rfl (Nat.le_of_ble_eq_true rfl) ?_
  intro pg ev s mi args below meth cd A Q ls hC hW hret hl
  obtain ⟨hx, hb, -⟩ := id hC
  have hl : lv_has ls 2 [(0, .ref (ad 0)), (1, .int x)] := hl
  refine lv_aload_n hx hb dX1_isRecurrent_0 rfl (lv_at hl 0 rfl) ?_
  refine sp_callV (n := 0) (rest := []) hC hW (metX1_findRecurrent l D ad dc nb sk hok _ _ _ _ _ hk) q275 q277 qs23 q31 q278 rfl rfl rfl (by decide +kernel) ⟨by decide, by decide⟩ rfl hl rfl (Nat.le_of_ble_eq_true rfl) ⟨Nat.zero_le _, Nat.zero_le _⟩ dX1_isRecurrent_1 (fun u H locs hp hW => ?_)
  obtain ⟨W1, t1⟩ := u
  have hW : sp_Wd D (sp_wY ad dc (sp_aI nb) (sp_aI sk) (G) (W1) (sp_bF (sp_rB nb sk)) (nI 1) (t1)) A s.heap H locs := hW
  refine lv_iload_n hx hb dX1_isRecurrent_4 rfl (lv_at hl 1 rfl) ?_
  refine lv_if_lt (tgt := 28) hx hb dX1_isRecurrent_5 (by decide) (fun c1 => ?_) (fun c1 => ?_)
  · skip
    refine lv_iconst (v := nI 0) hx hb dX1_isRecurrent_28 (by decide) ?_
    exact hret _ _ _ _ _ ((W1, t1)) dX1_isRecurrent_29 (rfl) (sp_QB.n (fun q => absurd c1 (by obtain ⟨j, hj, e, -⟩ := q; rw [e]; exact nI_pos (by omega)))) hW
  · skip
    obtain ⟨y, hy, rfl⟩ := nI_of c1
    refine lv_iload_n hx hb dX1_isRecurrent_8 rfl (lv_at hl 1 rfl) ?_
    refine lv_sipush (v := nI 4095) hx hb dX1_isRecurrent_9 (by decide) ?_
    refine sp_icmp_gt (a := y) (b := 4095) (tgt := 28) hx hb dX1_isRecurrent_12 (by decide) (by omega) (by omega) (fun c2 => ?_) (fun c2 => ?_)
    · skip
      refine lv_iconst (v := nI 0) hx hb dX1_isRecurrent_28 (by decide) ?_
      exact hret _ _ _ _ _ ((W1, t1)) dX1_isRecurrent_29 (rfl) (sp_QB.n (fun q => absurd c2 (by obtain ⟨j, hj, e, hs⟩ := q; have e := (nI_eq (by omega) (by omega)).mp e; omega))) hW
    · skip
      refine lv_aload_n hx hb dX1_isRecurrent_15 rfl (lv_at hl 0 rfl) ?_
      refine sp_get1 hC hW 4 (by decide) q192 rfl (v := .ref (ad 5)) rfl dX1_isRecurrent_16 ?_
      refine lv_iload_n hx hb dX1_isRecurrent_19 rfl (lv_at hl 1 rfl) ?_
      refine sp_zald hC hW 5 4 rfl rfl (k := y) (v := (sp_bF (sp_rB nb sk)) (y)) (by omega) (by decide) rfl dX1_isRecurrent_20 ?_
      by_cases hf : sp_rB nb sk y = true
      · skip
        refine sp_top (y := nI 1) (if_pos hf) ?_
        refine sp_if_eq (a := 1) (tgt := 28) hx hb dX1_isRecurrent_21 (by decide) (by omega) (fun cK => ?_) (fun cK => ?_)
        · skip
          exfalso; omega
        · skip
          refine lv_iconst (v := nI 1) hx hb dX1_isRecurrent_24 (by decide) ?_
          refine lv_goto (tgt := 29) hx hb dX1_isRecurrent_25 (by decide) ?_
          exact hret _ _ _ _ _ ((W1, t1)) dX1_isRecurrent_29 (rfl) (sp_QB.p ((sp_isR_nI (by omega)).mpr ((sp_rB_iff hok y).mp hf))) hW
      · skip
        refine sp_top (y := nI 0) (if_neg hf) ?_
        refine sp_if_eq (a := 0) (tgt := 28) hx hb dX1_isRecurrent_21 (by decide) (by omega) (fun cK => ?_) (fun cK => ?_)
        · skip
          refine lv_iconst (v := nI 0) hx hb dX1_isRecurrent_28 (by decide) ?_
          exact hret _ _ _ _ _ ((W1, t1)) dX1_isRecurrent_29 (rfl) (sp_QB.n (fun q => hf ((sp_rB_iff hok y).mpr ((sp_isR_nI (by omega)).mp q)))) hW
        · skip
          exfalso; omega
set_option maxHeartbeats 4000000 in
set_option maxRecDepth 100000 in
/-- neutralState -/
theorem metX1_neutralState (l : Launch) (D : va_G) (ad : Nat → Nat) (dc : Nat → ClassId) (nb sk : Nat → Nat) (hok : sp_Ok nb sk) (G Wk F : Nat → Int32) (known top : Int32) (hk : sp_KF nb sk known F) : sp_MI l D (sp_tY dc) yX1_neutralState cX1_neutralState 3 .int ({ frames := 8, cells := 0, slots := 0, locals := 181 } : Room) [.ref (ad 0)] (sp_wY ad dc (sp_aI nb) (sp_aI sk) (G) (Wk) (F) (known) (top)) (S := Int32 × (Nat → Int32) × (Nat → Int32) × Int32) (fun r u => r = nI (sp_ne nb sk) ∧ sp_KF nb sk u.1 u.2.1) (fun u => sp_wY ad dc (sp_aI nb) (sp_aI sk) (G) (u.2.2.1) (u.2.1) (u.1) (u.2.2.2)) := by
  refine sp_entI (own := RX1) (by decide) rfl (Nat.le_of_ble_eq_true rfl) ?_
  intro pg ev s mi args below meth cd A Q ls hC hW hret hl
  obtain ⟨hx, hb, -⟩ := id hC
  have hl : lv_has ls 3 [(0, .ref (ad 0))] := hl
  refine lv_aload_n hx hb dX1_neutralState_0 rfl (lv_at hl 0 rfl) ?_
  refine sp_callI (n := 0) (rest := []) hC hW (metX1_full l D ad dc nb sk hok _ _ _ _ _) q279 q281 qs24 q31 q282 rfl rfl rfl (by decide +kernel) ⟨by decide, by decide⟩ rfl hl rfl (Nat.le_of_ble_eq_true rfl) ⟨Nat.zero_le _, Nat.zero_le _⟩ dX1_neutralState_1 (fun r W1 H locs hp hW => ?_)
  have hp : r = nI (sp_pk (sp_fl nb sk)) := hp
  subst hp
  have hW : sp_Wd D (sp_wY ad dc (sp_aI nb) (sp_aI sk) (G) (W1) (F) (known) (top)) A s.heap H locs := hW
  have hfl := sp_pk_lt (sp_fl8 hok)
  have hnl := sp_ne_lt hok
  refine lv_istore_n (lv' := [(1, .int (nI (sp_pk (sp_fl nb sk)))), (0, .ref (ad 0))]) hx hb dX1_neutralState_4 rfl hl (by decide) rfl (fun ls hl => ?_)
  refine lv_iconst (v := nI 0) hx hb dX1_neutralState_5 (by decide) ?_
  refine lv_istore_n (lv' := [(2, .int (nI 0)), (1, .int (nI (sp_pk (sp_fl nb sk)))), (0, .ref (ad 0))]) hx hb dX1_neutralState_6 rfl hl (by decide) rfl (fun ls hl => ?_)
  have loop : ∀ (n i : Nat) (kn1 : Int32) (F1 : Nat → Int32) (W2 : Nat → Int32) (t2 : Int32), i + n = 4096 → sp_KF nb sk kn1 F1 → (∀ k, k < i → k ≠ sp_ne nb sk) → ∀ (H : Heap) (locs : List Loc) (ls : Array Slot), sp_Wd D (sp_wY ad dc (sp_aI nb) (sp_aI sk) (G) (W2) (F1) (kn1) (t2)) A s.heap H locs → lv_has ls 3 [(0, .ref (ad 0)), (1, .int (nI (sp_pk (sp_fl nb sk)))), (2, .int (nI i))] → W pg l ev ({ frames := 8, cells := 0, slots := 0, locals := 181 } : Room) s mi args below meth cd H locs 0 0 Q (F0 mi 7 ls []) := by
    intro n
    induction n with
    | zero =>
      intro i kn1 F1 W2 t2 hi_i hk1 hno H locs ls hW hl
      refine lv_iload_n hx hb dX1_neutralState_7 rfl (lv_at hl 2 rfl) ?_
      refine lv_sipush (v := nI 4096) hx hb dX1_neutralState_8 (by decide) ?_
      refine sp_icmp_ge (a := i) (b := 4096) (tgt := 40) hx hb dX1_neutralState_11 (by decide) (by omega) (by omega) (fun c => ?_) (fun c => ?_)
      · skip
        exact absurd rfl (hno (sp_ne nb sk) (by omega))
      · skip
        exfalso; omega
    | succ n ih =>
      intro i kn1 F1 W2 t2 hi_i hk1 hno H locs ls hW hl
      refine lv_iload_n hx hb dX1_neutralState_7 rfl (lv_at hl 2 rfl) ?_
      refine lv_sipush (v := nI 4096) hx hb dX1_neutralState_8 (by decide) ?_
      refine sp_icmp_ge (a := i) (b := 4096) (tgt := 40) hx hb dX1_neutralState_11 (by decide) (by omega) (by omega) (fun c => ?_) (fun c => ?_)
      · skip
        exfalso; omega
      · skip
        refine lv_aload_n hx hb dX1_neutralState_14 rfl (lv_at hl 0 rfl) ?_
        refine lv_iload_n hx hb dX1_neutralState_15 rfl (lv_at hl 2 rfl) ?_
        refine sp_callI (n := 1) (rest := []) hC hW (metX1_isRecurrent l D ad dc nb sk hok _ _ _ _ _ hk1 (nI i)) q271 q273 qs22 q31 q274 rfl rfl rfl (by decide +kernel) ⟨by decide, by decide⟩ rfl hl rfl (Nat.le_of_ble_eq_true rfl) ⟨Nat.zero_le _, Nat.zero_le _⟩ dX1_neutralState_16 (fun r u H locs hp hW => ?_)
        obtain ⟨W3, t3⟩ := u
        have hW : sp_Wd D (sp_wY ad dc (sp_aI nb) (sp_aI sk) (G) (W3) (sp_bF (sp_rB nb sk)) (nI 1) (t3)) A s.heap H locs := hW
        by_cases hr : sp_isR nb sk (nI i)
        · skip
          have hp1 : r = nI 1 := hp.1 hr
          subst hp1
          refine sp_if_eq (a := 1) (tgt := 34) hx hb dX1_neutralState_19 (by decide) (by omega) (fun cK => ?_) (fun cK => ?_)
          · skip
            exfalso; omega
          · skip
            have hri := (sp_isR_nI (show i < 4096 by omega)).mp hr
            refine lv_aload_n hx hb dX1_neutralState_22 rfl (lv_at hl 0 rfl) ?_
            refine lv_iload_n hx hb dX1_neutralState_23 rfl (lv_at hl 2 rfl) ?_
            refine lv_iload_n hx hb dX1_neutralState_24 rfl (lv_at hl 1 rfl) ?_
            refine sp_callI (n := 2) (rest := []) hC hW (metX1_sum l D ad dc nb sk hok _ _ _ _ _ (i) (sp_pk (sp_fl nb sk)) (by omega) (hfl)) q291 q293 qs27 q31 q294 rfl rfl rfl (by decide +kernel) ⟨by decide, by decide⟩ rfl hl rfl (Nat.le_of_ble_eq_true rfl) ⟨Nat.zero_le _, Nat.zero_le _⟩ dX1_neutralState_25 (fun r u H locs hp hW => ?_)
            have hp : r = nI (sp_ad nb sk i (sp_pk (sp_fl nb sk))) := hp
            subst hp
            obtain ⟨W4, t4⟩ := u
            have hW : sp_Wd D (sp_wY ad dc (sp_aI nb) (sp_aI sk) (G) (W4) (sp_bF (sp_rB nb sk)) (nI 1) (t4)) A s.heap H locs := hW
            have hal := sp_ad_lt hok i (sp_pk (sp_fl nb sk))
            refine lv_iload_n hx hb dX1_neutralState_28 rfl (lv_at hl 1 rfl) ?_
            refine sp_icmp_ne (a := sp_ad nb sk i (sp_pk (sp_fl nb sk))) (b := sp_pk (sp_fl nb sk)) (tgt := 34) hx hb dX1_neutralState_29 (by decide) (by omega) (by omega) (fun ce => ?_) (fun ce => ?_)
            · skip
              refine lv_iinc (v := nI (i + 1)) (lv' := [(2, .int (nI (i + 1))), (0, .ref (ad 0)), (1, .int (nI (sp_pk (sp_fl nb sk))))]) hx hb dX1_neutralState_34 hl (k := 2) rfl (nI_1 _) (by decide) rfl (fun ls hl => ?_)
              refine lv_goto (tgt := 7) hx hb dX1_neutralState_37 (by decide) ?_
              exact ih (i + 1) _ _ _ _ (by omega) (Or.inr ⟨rfl, fun _ _ => rfl⟩) (lt_s hno (fun q => ce ((sp_ne_iff hok (by omega) hri).mpr q))) _ _ _ hW (lv_sub hl [1, 2, 0] rfl)
            · skip
              refine lv_iload_n hx hb dX1_neutralState_32 rfl (lv_at hl 2 rfl) ?_
              exact hret _ _ _ _ _ ((_, _, W4, t4)) dX1_neutralState_33 (rfl) (⟨congrArg nI ((sp_ne_iff hok (by omega) hri).mp ce), Or.inr ⟨rfl, fun _ _ => rfl⟩⟩) hW
        · skip
          have hp1 : r = nI 0 := hp.2 hr
          subst hp1
          refine sp_if_eq (a := 0) (tgt := 34) hx hb dX1_neutralState_19 (by decide) (by omega) (fun cK => ?_) (fun cK => ?_)
          · skip
            refine lv_iinc (v := nI (i + 1)) (lv' := [(2, .int (nI (i + 1))), (0, .ref (ad 0)), (1, .int (nI (sp_pk (sp_fl nb sk))))]) hx hb dX1_neutralState_34 hl (k := 2) rfl (nI_1 _) (by decide) rfl (fun ls hl => ?_)
            refine lv_goto (tgt := 7) hx hb dX1_neutralState_37 (by decide) ?_
            exact ih (i + 1) _ _ _ _ (by omega) (Or.inr ⟨rfl, fun _ _ => rfl⟩) (lt_s hno (fun q => hr ((sp_isR_nI (by omega)).mpr (q ▸ sp_ne_Rec hok)))) _ _ _ hW (lv_sub hl [1, 2, 0] rfl)
          · skip
            exfalso; omega
  exact loop 4096 0 _ _ _ _ (by omega) hk lt_0 _ _ _ hW (lv_sub hl [2, 1, 0] rfl)
end
section
set_option maxRecDepth 100000
set_option maxHeartbeats 4000000 in
set_option maxRecDepth 100000 in
/-- edge -/
theorem metX1_edge (l : Launch) (D : va_G) (ad : Nat → Nat) (dc : Nat → ClassId) (nb sk : Nat → Nat) (hok : sp_Ok nb sk) (kp : Nat) (hkp : sp_KP nb sk kp) (Wk F : Nat → Int32) (known top : Int32) (hk : sp_KF nb sk known F) (a b t : Int32) : sp_MI l D (sp_tY dc) yX1_edge cX1_edge 4 .boolean ({ frames := 1, cells := 0, slots := 0, locals := 21 } : Room) [.ref (ad 0), .int a, .int b, .int t] (sp_wY ad dc (sp_aI nb) (sp_aI sk) (sp_aI (sp_dt kp)) (Wk) (F) (known) (top)) (S := (Nat → Int32) × (Nat → Int32) × Int32 × Int32) (fun r u => sp_QB (sp_eC a b) r ∧ sp_KF (sp_nbE nb a b t) sk u.2.2.1 u.2.1) (fun u => sp_wY ad dc (sp_aI (sp_nbE nb a b t)) (sp_aI sk) (sp_aI (sp_dt (sp_kpE kp a b))) (u.1) (u.2.1) (u.2.2.1) (u.2.2.2)) := by
  refine sp_entI (own := RX1) (by decide) rfl (Nat.le_of_ble_eq_true rfl) ?_
  intro pg ev s mi args below meth cd A Q ls hC hW hret hl
  obtain ⟨hx, hb, -⟩ := id hC
  have hl : lv_has ls 4 [(0, .ref (ad 0)), (1, .int a), (2, .int b), (3, .int t)] := hl
  refine lv_aload_n hx hb dX1_edge_0 rfl (lv_at hl 0 rfl) ?_
  refine lv_iload_n hx hb dX1_edge_1 rfl (lv_at hl 1 rfl) ?_
  refine sp_callI (n := 1) (rest := []) hC hW (metX1_isPlace l D ad dc _ (ad 0) _ _ (a)) q215 q217 qs14 q31 q218 rfl rfl rfl (by decide +kernel) ⟨by decide, by decide⟩ rfl hl rfl (Nat.le_of_ble_eq_true rfl) ⟨Nat.zero_le _, Nat.zero_le _⟩ dX1_edge_2 (fun r u H locs hp hW => ?_)
  have hW : sp_Wd D (sp_wY ad dc (sp_aI nb) (sp_aI sk) (sp_aI (sp_dt kp)) (Wk) (F) (known) (top)) A s.heap H locs := hW
  by_cases hPa : sp_isP a
  · skip
    have hp1 : r = nI 1 := hp.1 hPa
    subst hp1
    refine sp_if_eq (a := 1) (tgt := 21) hx hb dX1_edge_5 (by decide) (by omega) (fun cK => ?_) (fun cK => ?_)
    · skip
      exfalso; omega
    · skip
      obtain ⟨ka, hka, rfl⟩ := sp_pl4 hPa.1 hPa.2
      refine lv_aload_n hx hb dX1_edge_8 rfl (lv_at hl 0 rfl) ?_
      refine lv_iload_n hx hb dX1_edge_9 rfl (lv_at hl 2 rfl) ?_
      refine sp_callI (n := 1) (rest := []) hC hW (metX1_isPlace l D ad dc _ (ad 0) _ _ (b)) q215 q217 qs14 q31 q218 rfl rfl rfl (by decide +kernel) ⟨by decide, by decide⟩ rfl hl rfl (Nat.le_of_ble_eq_true rfl) ⟨Nat.zero_le _, Nat.zero_le _⟩ dX1_edge_10 (fun r u H locs hp hW => ?_)
      have hW : sp_Wd D (sp_wY ad dc (sp_aI nb) (sp_aI sk) (sp_aI (sp_dt kp)) (Wk) (F) (known) (top)) A s.heap H locs := hW
      by_cases hPb : sp_isP b
      · skip
        have hp1 : r = nI 1 := hp.1 hPb
        subst hp1
        refine sp_if_eq (a := 1) (tgt := 21) hx hb dX1_edge_13 (by decide) (by omega) (fun cK => ?_) (fun cK => ?_)
        · skip
          exfalso; omega
        · skip
          obtain ⟨kb, hkb, rfl⟩ := sp_pl4 hPb.1 hPb.2
          refine lv_iload_n hx hb dX1_edge_16 rfl (lv_at hl 1 rfl) ?_
          refine lv_iload_n hx hb dX1_edge_17 rfl (lv_at hl 2 rfl) ?_
          refine sp_icmp_ne (a := ka) (b := kb) (tgt := 23) hx hb dX1_edge_18 (by decide) (by omega) (by omega) (fun cab => ?_) (fun cab => ?_)
          · skip
            have hna := (hok.1 ka hka).1
            have hnb2 := (hok.1 kb hkb).1
            refine lv_aload_n hx hb dX1_edge_23 rfl (lv_at hl 0 rfl) ?_
            refine sp_get1 hC hW 0 (by decide) q188 rfl (v := .ref (ad 1)) rfl dX1_edge_24 ?_
            refine lv_iload_n hx hb dX1_edge_27 rfl (lv_at hl 1 rfl) ?_
            refine lv_iload_n hx hb dX1_edge_28 rfl (lv_at hl 3 rfl) ?_
            refine lv_if_eq (tgt := 45) hx hb dX1_edge_29 (by decide) (fun ct => ?_) (fun ct => ?_)
            · skip
              refine lv_aload_n hx hb dX1_edge_45 rfl (lv_at hl 0 rfl) ?_
              refine sp_get1 hC hW 0 (by decide) q188 rfl (v := .ref (ad 1)) rfl dX1_edge_46 ?_
              refine lv_iload_n hx hb dX1_edge_49 rfl (lv_at hl 1 rfl) ?_
              refine sp_iald hC hW 1 0 rfl rfl (k := ka) (v := nI (nb ka)) (by omega) (by decide) rfl dX1_edge_50 ?_
              refine lv_iconst (v := nI 1) hx hb dX1_edge_51 (by decide) ?_
              refine lv_iload_n hx hb dX1_edge_52 rfl (lv_at hl 2 rfl) ?_
              refine lv_ishl hx hb dX1_edge_53 ?_
              refine sp_top (y := nI (2 ^ kb)) (sp_shl1 _ hkb) ?_
              refine lv_iconst (v := (-1)) hx hb dX1_edge_54 (by decide) ?_
              refine lv_ixor hx hb dX1_edge_55 ?_
              refine lv_iand hx hb dX1_edge_56 ?_
              refine sp_top (y := nI (nb ka &&& (15 ^^^ 2 ^ kb))) (sp_anb _ hna _ hkb) ?_
              refine sp_iast hC hW 1 0 rfl rfl (k := ka) (x := nI (nb ka &&& (15 ^^^ 2 ^ kb))) (by omega) (by decide) (sp_aI (sp_up (nb) (ka) (nb ka &&& (15 ^^^ 2 ^ kb)))) (sp_aup) dX1_edge_57 (fun H locs hW => ?_)
              have hW : sp_Wd D (sp_wY ad dc (sp_aI (sp_up (nb) (ka) (nb ka &&& (15 ^^^ 2 ^ kb)))) (sp_aI sk) (sp_aI (sp_dt kp)) (Wk) (F) (known) (top)) A s.heap H locs := hW
              refine lv_aload_n hx hb dX1_edge_58 rfl (lv_at hl 0 rfl) ?_
              refine sp_get1 hC hW 0 (by decide) q188 rfl (v := .ref (ad 1)) rfl dX1_edge_59 ?_
              refine lv_iload_n hx hb dX1_edge_62 rfl (lv_at hl 2 rfl) ?_
              refine lv_iload_n hx hb dX1_edge_63 rfl (lv_at hl 3 rfl) ?_
              refine lv_if_eq (tgt := 80) hx hb dX1_edge_64 (by decide) (fun ct2 => ?_) (fun ct2 => ?_)
              · skip
                refine lv_aload_n hx hb dX1_edge_80 rfl (lv_at hl 0 rfl) ?_
                refine sp_get1 hC hW 0 (by decide) q188 rfl (v := .ref (ad 1)) rfl dX1_edge_81 ?_
                refine lv_iload_n hx hb dX1_edge_84 rfl (lv_at hl 2 rfl) ?_
                refine sp_iald hC hW 1 0 rfl rfl (k := kb) (v := nI ((sp_up (nb) (ka) (nb ka &&& (15 ^^^ 2 ^ kb))) (kb))) (by omega) (by decide) rfl dX1_edge_85 ?_
                refine sp_top (y := nI (nb kb)) (congrArg nI (if_neg (Ne.symm cab))) ?_
                refine lv_iconst (v := nI 1) hx hb dX1_edge_86 (by decide) ?_
                refine lv_iload_n hx hb dX1_edge_87 rfl (lv_at hl 1 rfl) ?_
                refine lv_ishl hx hb dX1_edge_88 ?_
                refine sp_top (y := nI (2 ^ ka)) (sp_shl1 _ hka) ?_
                refine lv_iconst (v := (-1)) hx hb dX1_edge_89 (by decide) ?_
                refine lv_ixor hx hb dX1_edge_90 ?_
                refine lv_iand hx hb dX1_edge_91 ?_
                refine sp_top (y := nI (nb kb &&& (15 ^^^ 2 ^ ka))) (sp_anb _ hnb2 _ hka) ?_
                refine sp_iast hC hW 1 0 rfl rfl (k := kb) (x := nI (nb kb &&& (15 ^^^ 2 ^ ka))) (by omega) (by decide) (sp_aI (sp_up (sp_up (nb) (ka) (nb ka &&& (15 ^^^ 2 ^ kb))) (kb) (nb kb &&& (15 ^^^ 2 ^ ka)))) (sp_aup) dX1_edge_92 (fun H locs hW => ?_)
                have hW : sp_Wd D (sp_wY ad dc (sp_aI (sp_up (sp_up (nb) (ka) (nb ka &&& (15 ^^^ 2 ^ kb))) (kb) (nb kb &&& (15 ^^^ 2 ^ ka)))) (sp_aI sk) (sp_aI (sp_dt kp)) (Wk) (F) (known) (top)) A s.heap H locs := hW
                refine lv_aload_n hx hb dX1_edge_93 rfl (lv_at hl 0 rfl) ?_
                have hok2 := sp_e0_ok hok hka hkb cab
                have hW : sp_Wd D (sp_wY ad dc (sp_aI (sp_e0 nb ka kb)) (sp_aI sk) (sp_aI (sp_dt kp)) (Wk) (F) (known) (top)) A s.heap H locs := hW
                refine sp_callV (n := 0) (rest := []) hC hW (metX1_vanish l D ad dc _ _ _ _ _ _ _) q219 q221 qs15 q31 q222 rfl rfl rfl (by decide +kernel) ⟨by decide, by decide⟩ rfl hl rfl (Nat.le_of_ble_eq_true rfl) ⟨Nat.zero_le _, Nat.zero_le _⟩ dX1_edge_94 (fun u H locs hp hW => ?_)
                have hW : sp_Wd D (sp_wY ad dc (sp_aI (sp_e0 nb ka kb)) (sp_aI sk) (sp_aI (sp_dt 0)) (Wk) (F) (nI 0) (top)) A s.heap H locs := hW
                refine lv_iconst (v := nI 1) hx hb dX1_edge_97 (by decide) ?_
                refine hret _ _ _ _ _ ((Wk, F, nI 0, top)) dX1_edge_98 rfl ⟨sp_QB.p (sp_eC_nI hka hkb cab), Or.inl rfl⟩ ?_
                rw [sp_nbE_0 hka hkb cab ct, sp_kpE_p (sp_eC_nI hka hkb cab)]
                exact hW
              · skip
                exact absurd ct ct2
            · skip
              refine lv_aload_n hx hb dX1_edge_32 rfl (lv_at hl 0 rfl) ?_
              refine sp_get1 hC hW 0 (by decide) q188 rfl (v := .ref (ad 1)) rfl dX1_edge_33 ?_
              refine lv_iload_n hx hb dX1_edge_36 rfl (lv_at hl 1 rfl) ?_
              refine sp_iald hC hW 1 0 rfl rfl (k := ka) (v := nI (nb ka)) (by omega) (by decide) rfl dX1_edge_37 ?_
              refine lv_iconst (v := nI 1) hx hb dX1_edge_38 (by decide) ?_
              refine lv_iload_n hx hb dX1_edge_39 rfl (lv_at hl 2 rfl) ?_
              refine lv_ishl hx hb dX1_edge_40 ?_
              refine sp_top (y := nI (2 ^ kb)) (sp_shl1 _ hkb) ?_
              refine lv_ior hx hb dX1_edge_41 ?_
              refine sp_top (y := nI (nb ka ||| 2 ^ kb)) (sp_orb _ hna _ hkb) ?_
              refine lv_goto (tgt := 57) hx hb dX1_edge_42 (by decide) ?_
              refine sp_iast hC hW 1 0 rfl rfl (k := ka) (x := nI (nb ka ||| 2 ^ kb)) (by omega) (by decide) (sp_aI (sp_up (nb) (ka) (nb ka ||| 2 ^ kb))) (sp_aup) dX1_edge_57 (fun H locs hW => ?_)
              have hW : sp_Wd D (sp_wY ad dc (sp_aI (sp_up (nb) (ka) (nb ka ||| 2 ^ kb))) (sp_aI sk) (sp_aI (sp_dt kp)) (Wk) (F) (known) (top)) A s.heap H locs := hW
              refine lv_aload_n hx hb dX1_edge_58 rfl (lv_at hl 0 rfl) ?_
              refine sp_get1 hC hW 0 (by decide) q188 rfl (v := .ref (ad 1)) rfl dX1_edge_59 ?_
              refine lv_iload_n hx hb dX1_edge_62 rfl (lv_at hl 2 rfl) ?_
              refine lv_iload_n hx hb dX1_edge_63 rfl (lv_at hl 3 rfl) ?_
              refine lv_if_eq (tgt := 80) hx hb dX1_edge_64 (by decide) (fun ct2 => ?_) (fun ct2 => ?_)
              · skip
                exact absurd ct2 ct
              · skip
                refine lv_aload_n hx hb dX1_edge_67 rfl (lv_at hl 0 rfl) ?_
                refine sp_get1 hC hW 0 (by decide) q188 rfl (v := .ref (ad 1)) rfl dX1_edge_68 ?_
                refine lv_iload_n hx hb dX1_edge_71 rfl (lv_at hl 2 rfl) ?_
                refine sp_iald hC hW 1 0 rfl rfl (k := kb) (v := nI (sp_up (nb) (ka) (nb ka ||| 2 ^ kb) kb)) (by omega) (by decide) rfl dX1_edge_72 ?_
                refine sp_top (y := nI (nb kb)) (congrArg nI (if_neg (Ne.symm cab))) ?_
                refine lv_iconst (v := nI 1) hx hb dX1_edge_73 (by decide) ?_
                refine lv_iload_n hx hb dX1_edge_74 rfl (lv_at hl 1 rfl) ?_
                refine lv_ishl hx hb dX1_edge_75 ?_
                refine sp_top (y := nI (2 ^ ka)) (sp_shl1 _ hka) ?_
                refine lv_ior hx hb dX1_edge_76 ?_
                refine sp_top (y := nI (nb kb ||| 2 ^ ka)) (sp_orb _ hnb2 _ hka) ?_
                refine lv_goto (tgt := 92) hx hb dX1_edge_77 (by decide) ?_
                refine sp_iast hC hW 1 0 rfl rfl (k := kb) (x := nI (nb kb ||| 2 ^ ka)) (by omega) (by decide) (sp_aI (sp_up (sp_up (nb) (ka) (nb ka ||| 2 ^ kb)) (kb) (nb kb ||| 2 ^ ka))) (sp_aup) dX1_edge_92 (fun H locs hW => ?_)
                have hW : sp_Wd D (sp_wY ad dc (sp_aI (sp_up (sp_up (nb) (ka) (nb ka ||| 2 ^ kb)) (kb) (nb kb ||| 2 ^ ka))) (sp_aI sk) (sp_aI (sp_dt kp)) (Wk) (F) (known) (top)) A s.heap H locs := hW
                refine lv_aload_n hx hb dX1_edge_93 rfl (lv_at hl 0 rfl) ?_
                have hok2 := sp_e1_ok hok hka hkb cab
                have hW : sp_Wd D (sp_wY ad dc (sp_aI (sp_e1 nb ka kb)) (sp_aI sk) (sp_aI (sp_dt kp)) (Wk) (F) (known) (top)) A s.heap H locs := hW
                refine sp_callV (n := 0) (rest := []) hC hW (metX1_vanish l D ad dc _ _ _ _ _ _ _) q219 q221 qs15 q31 q222 rfl rfl rfl (by decide +kernel) ⟨by decide, by decide⟩ rfl hl rfl (Nat.le_of_ble_eq_true rfl) ⟨Nat.zero_le _, Nat.zero_le _⟩ dX1_edge_94 (fun u H locs hp hW => ?_)
                have hW : sp_Wd D (sp_wY ad dc (sp_aI (sp_e1 nb ka kb)) (sp_aI sk) (sp_aI (sp_dt 0)) (Wk) (F) (nI 0) (top)) A s.heap H locs := hW
                refine lv_iconst (v := nI 1) hx hb dX1_edge_97 (by decide) ?_
                refine hret _ _ _ _ _ ((Wk, F, nI 0, top)) dX1_edge_98 rfl ⟨sp_QB.p (sp_eC_nI hka hkb cab), Or.inl rfl⟩ ?_
                rw [sp_nbE_1 hka hkb cab ct, sp_kpE_p (sp_eC_nI hka hkb cab)]
                exact hW
          · skip
            refine lv_iconst (v := nI 0) hx hb dX1_edge_21 (by decide) ?_
            have hn : ¬ sp_eC (nI ka) (nI kb) := fun q => q.2.2 (congrArg nI cab)
            have hk2 : sp_KF (sp_nbE nb (nI ka) (nI kb) t) sk known F := by rw [sp_nbE_n hn]; exact hk
            refine hret _ _ _ _ _ ((Wk, F, known, top)) dX1_edge_22 rfl ⟨sp_QB.n hn, hk2⟩ ?_
            rw [sp_nbE_n hn, sp_kpE_n hn]
            exact hW
      · skip
        have hp1 : r = nI 0 := hp.2 hPb
        subst hp1
        refine sp_if_eq (a := 0) (tgt := 21) hx hb dX1_edge_13 (by decide) (by omega) (fun cK => ?_) (fun cK => ?_)
        · skip
          refine lv_iconst (v := nI 0) hx hb dX1_edge_21 (by decide) ?_
          have hn : ¬ sp_eC (nI ka) (b) := fun q => hPb q.2.1
          have hk2 : sp_KF (sp_nbE nb (nI ka) (b) t) sk known F := by rw [sp_nbE_n hn]; exact hk
          refine hret _ _ _ _ _ ((Wk, F, known, top)) dX1_edge_22 rfl ⟨sp_QB.n hn, hk2⟩ ?_
          rw [sp_nbE_n hn, sp_kpE_n hn]
          exact hW
        · skip
          exfalso; omega
  · skip
    have hp1 : r = nI 0 := hp.2 hPa
    subst hp1
    refine sp_if_eq (a := 0) (tgt := 21) hx hb dX1_edge_5 (by decide) (by omega) (fun cK => ?_) (fun cK => ?_)
    · skip
      refine lv_iconst (v := nI 0) hx hb dX1_edge_21 (by decide) ?_
      have hn : ¬ sp_eC (a) (b) := fun q => hPa q.1
      have hk2 : sp_KF (sp_nbE nb (a) (b) t) sk known F := by rw [sp_nbE_n hn]; exact hk
      refine hret _ _ _ _ _ ((Wk, F, known, top)) dX1_edge_22 rfl ⟨sp_QB.n hn, hk2⟩ ?_
      rw [sp_nbE_n hn, sp_kpE_n hn]
      exact hW
    · skip
      exfalso; omega
set_option maxHeartbeats 4000000 in
set_option maxRecDepth 100000 in
/-- sink -/
theorem metX1_sink (l : Launch) (D : va_G) (ad : Nat → Nat) (dc : Nat → ClassId) (nb sk : Nat → Nat) (hok : sp_Ok nb sk) (kp : Nat) (hkp : sp_KP nb sk kp) (Wk F : Nat → Int32) (known top : Int32) (hk : sp_KF nb sk known F) (a t : Int32) : sp_MI l D (sp_tY dc) yX1_sink cX1_sink 3 .boolean ({ frames := 1, cells := 0, slots := 0, locals := 21 } : Room) [.ref (ad 0), .int a, .int t] (sp_wY ad dc (sp_aI nb) (sp_aI sk) (sp_aI (sp_dt kp)) (Wk) (F) (known) (top)) (S := (Nat → Int32) × (Nat → Int32) × Int32 × Int32) (fun r u => sp_QB (sp_sC a t) r ∧ sp_KF nb (sp_skS sk a t) u.2.2.1 u.2.1) (fun u => sp_wY ad dc (sp_aI nb) (sp_aI (sp_skS sk a t)) (sp_aI (sp_dt (sp_kpS kp a t))) (u.1) (u.2.1) (u.2.2.1) (u.2.2.2)) := by
  refine sp_entI (own := RX1) (by decide) rfl (Nat.le_of_ble_eq_true rfl) ?_
  intro pg ev s mi args below meth cd A Q ls hC hW hret hl
  obtain ⟨hx, hb, -⟩ := id hC
  have hl : lv_has ls 3 [(0, .ref (ad 0)), (1, .int a), (2, .int t)] := hl
  refine lv_aload_n hx hb dX1_sink_0 rfl (lv_at hl 0 rfl) ?_
  refine lv_iload_n hx hb dX1_sink_1 rfl (lv_at hl 1 rfl) ?_
  refine sp_callI (n := 1) (rest := []) hC hW (metX1_isPlace l D ad dc _ (ad 0) _ _ (a)) q215 q217 qs14 q31 q218 rfl rfl rfl (by decide +kernel) ⟨by decide, by decide⟩ rfl hl rfl (Nat.le_of_ble_eq_true rfl) ⟨Nat.zero_le _, Nat.zero_le _⟩ dX1_sink_2 (fun r u H locs hp hW => ?_)
  have hW : sp_Wd D (sp_wY ad dc (sp_aI nb) (sp_aI sk) (sp_aI (sp_dt kp)) (Wk) (F) (known) (top)) A s.heap H locs := hW
  by_cases hPa : sp_isP a
  · skip
    have hp1 : r = nI 1 := hp.1 hPa
    subst hp1
    refine sp_if_eq (a := 1) (tgt := 18) hx hb dX1_sink_5 (by decide) (by omega) (fun cK => ?_) (fun cK => ?_)
    · skip
      exfalso; omega
    · skip
      obtain ⟨ka, hka, rfl⟩ := sp_pl4 hPa.1 hPa.2
      refine lv_iload_n hx hb dX1_sink_8 rfl (lv_at hl 2 rfl) ?_
      refine lv_iconst (v := nI 1) hx hb dX1_sink_9 (by decide) ?_
      refine lv_icmp_lt (tgt := 18) hx hb dX1_sink_10 (by decide) (fun c1 => ?_) (fun c1 => ?_)
      · skip
        refine lv_iconst (v := nI 0) hx hb dX1_sink_18 (by decide) ?_
        have hn : ¬ sp_sC (nI ka) (t) := fun q => q.2.1 c1
        have hk2 : sp_KF nb (sp_skS sk (nI ka) (t)) known F := by rw [sp_skS_n hn]; exact hk
        refine hret _ _ _ _ _ ((Wk, F, known, top)) dX1_sink_19 rfl ⟨sp_QB.n hn, hk2⟩ ?_
        rw [sp_skS_n hn, sp_kpS_n hn]
        exact hW
      · skip
        refine lv_iload_n hx hb dX1_sink_13 rfl (lv_at hl 2 rfl) ?_
        refine lv_iconst (v := nI 2) hx hb dX1_sink_14 (by decide) ?_
        refine lv_icmp_le (tgt := 20) hx hb dX1_sink_15 (by decide) (fun c2 => ?_) (fun c2 => ?_)
        · skip
          obtain ⟨kt, hk1, hk2, rfl⟩ := sp_t12 c1 c2
          refine lv_aload_n hx hb dX1_sink_20 rfl (lv_at hl 0 rfl) ?_
          refine sp_get1 hC hW 1 (by decide) q189 rfl (v := .ref (ad 2)) rfl dX1_sink_21 ?_
          refine lv_iload_n hx hb dX1_sink_24 rfl (lv_at hl 1 rfl) ?_
          refine lv_iload_n hx hb dX1_sink_25 rfl (lv_at hl 2 rfl) ?_
          refine sp_iast hC hW 2 1 rfl rfl (k := ka) (x := nI kt) (by omega) (by decide) (sp_aI (sp_up (sk) (ka) (kt))) (sp_aup) dX1_sink_26 (fun H locs hW => ?_)
          have hW : sp_Wd D (sp_wY ad dc (sp_aI nb) (sp_aI (sp_up (sk) (ka) (kt))) (sp_aI (sp_dt kp)) (Wk) (F) (known) (top)) A s.heap H locs := hW
          refine lv_aload_n hx hb dX1_sink_27 rfl (lv_at hl 0 rfl) ?_
          have hW : sp_Wd D (sp_wY ad dc (sp_aI nb) (sp_aI (sp_up sk ka kt)) (sp_aI (sp_dt kp)) (Wk) (F) (known) (top)) A s.heap H locs := hW
          refine sp_callV (n := 0) (rest := []) hC hW (metX1_vanish l D ad dc _ _ _ _ _ _ _) q219 q221 qs15 q31 q222 rfl rfl rfl (by decide +kernel) ⟨by decide, by decide⟩ rfl hl rfl (Nat.le_of_ble_eq_true rfl) ⟨Nat.zero_le _, Nat.zero_le _⟩ dX1_sink_28 (fun u H locs hp hW => ?_)
          have hW : sp_Wd D (sp_wY ad dc (sp_aI nb) (sp_aI (sp_up sk ka kt)) (sp_aI (sp_dt 0)) (Wk) (F) (nI 0) (top)) A s.heap H locs := hW
          refine lv_iconst (v := nI 1) hx hb dX1_sink_31 (by decide) ?_
          obtain ⟨hsc, hse⟩ := sp_skS_p (sk := sk) hka hk1 hk2
          refine hret _ _ _ _ _ ((Wk, F, nI 0, top)) dX1_sink_32 rfl ⟨sp_QB.p hsc, Or.inl rfl⟩ ?_
          rw [hse, sp_kpS_p hsc]
          exact hW
        · skip
          refine lv_iconst (v := nI 0) hx hb dX1_sink_18 (by decide) ?_
          have hn : ¬ sp_sC (nI ka) (t) := fun q => c2 q.2.2
          have hk2 : sp_KF nb (sp_skS sk (nI ka) (t)) known F := by rw [sp_skS_n hn]; exact hk
          refine hret _ _ _ _ _ ((Wk, F, known, top)) dX1_sink_19 rfl ⟨sp_QB.n hn, hk2⟩ ?_
          rw [sp_skS_n hn, sp_kpS_n hn]
          exact hW
  · skip
    have hp1 : r = nI 0 := hp.2 hPa
    subst hp1
    refine sp_if_eq (a := 0) (tgt := 18) hx hb dX1_sink_5 (by decide) (by omega) (fun cK => ?_) (fun cK => ?_)
    · skip
      refine lv_iconst (v := nI 0) hx hb dX1_sink_18 (by decide) ?_
      have hn : ¬ sp_sC (a) (t) := fun q => hPa q.1
      have hk2 : sp_KF nb (sp_skS sk (a) (t)) known F := by rw [sp_skS_n hn]; exact hk
      refine hret _ _ _ _ _ ((Wk, F, known, top)) dX1_sink_19 rfl ⟨sp_QB.n hn, hk2⟩ ?_
      rw [sp_skS_n hn, sp_kpS_n hn]
      exact hW
    · skip
      exfalso; omega
set_option maxHeartbeats 4000000 in
set_option maxRecDepth 100000 in
/-- drop -/
theorem metX1_drop (l : Launch) (D : va_G) (ad : Nat → Nat) (dc : Nat → ClassId) (nb sk : Nat → Nat) (hok : sp_Ok nb sk) (kp : Nat) (hkp : sp_KP nb sk kp) (Wk F : Nat → Int32) (known top : Int32) (hk : sp_KF nb sk known F) (a t : Int32) : sp_MI l D (sp_tY dc) yX1_drop cX1_drop 4 .int ({ frames := 4, cells := 0, slots := 0, locals := 90 } : Room) [.ref (ad 0), .int a, .int t] (sp_wY ad dc (sp_aI nb) (sp_aI sk) (sp_aI (sp_dt kp)) (Wk) (F) (known) (top)) (S := (Nat → Int32) × (Nat → Int32) × Int32 × Int32) (fun r u => sp_QV (sp_dC a t) (sp_vD nb sk kp a t) r ∧ sp_KF nb sk u.2.2.1 u.2.1) (fun u => sp_wY ad dc (sp_aI nb) (sp_aI sk) (sp_aI (sp_dt (sp_kpD nb sk kp a t))) (u.1) (u.2.1) (u.2.2.1) (u.2.2.2)) := by
  refine sp_entI (own := RX1) (by decide) rfl (Nat.le_of_ble_eq_true rfl) ?_
  intro pg ev s mi args below meth cd A Q ls hC hW hret hl
  obtain ⟨hx, hb, -⟩ := id hC
  have hl : lv_has ls 4 [(0, .ref (ad 0)), (1, .int a), (2, .int t)] := hl
  refine lv_aload_n hx hb dX1_drop_0 rfl (lv_at hl 0 rfl) ?_
  refine lv_iload_n hx hb dX1_drop_1 rfl (lv_at hl 1 rfl) ?_
  refine sp_callI (n := 1) (rest := []) hC hW (metX1_isPlace l D ad dc _ (ad 0) _ _ (a)) q215 q217 qs14 q31 q218 rfl rfl rfl (by decide +kernel) ⟨by decide, by decide⟩ rfl hl rfl (Nat.le_of_ble_eq_true rfl) ⟨Nat.zero_le _, Nat.zero_le _⟩ dX1_drop_2 (fun r u H locs hp hW => ?_)
  have hW : sp_Wd D (sp_wY ad dc (sp_aI nb) (sp_aI sk) (sp_aI (sp_dt kp)) (Wk) (F) (known) (top)) A s.heap H locs := hW
  by_cases hPa : sp_isP a
  · skip
    have hp1 : r = nI 1 := hp.1 hPa
    subst hp1
    refine sp_if_eq (a := 1) (tgt := 19) hx hb dX1_drop_5 (by decide) (by omega) (fun cK => ?_) (fun cK => ?_)
    · skip
      exfalso; omega
    · skip
      obtain ⟨ka, hka, rfl⟩ := sp_pl4 hPa.1 hPa.2
      refine lv_iload_n hx hb dX1_drop_8 rfl (lv_at hl 2 rfl) ?_
      refine lv_if_lt (tgt := 19) hx hb dX1_drop_9 (by decide) (fun c1 => ?_) (fun c1 => ?_)
      · skip
        refine lv_iconst (v := (-1)) hx hb dX1_drop_19 (by decide) ?_
        have hn : ¬ sp_dC (nI ka) (t) := fun q => q.2.1 c1
        refine hret _ _ _ _ _ ((Wk, F, known, top)) dX1_drop_20 rfl ⟨sp_QV.n hn, hk⟩ ?_
        rw [sp_kpD_n hn]
        exact hW
      · skip
        obtain ⟨kt, hkt, rfl⟩ := nI_of c1
        refine lv_iload_n hx hb dX1_drop_12 rfl (lv_at hl 2 rfl) ?_
        refine lv_sipush (v := nI 1000) hx hb dX1_drop_13 (by decide) ?_
        refine sp_icmp_le (a := kt) (b := 1000) (tgt := 21) hx hb dX1_drop_16 (by decide) (by omega) (by omega) (fun c2 => ?_) (fun c2 => ?_)
        · skip
          refine lv_iconst (v := nI 0) hx hb dX1_drop_21 (by decide) ?_
          refine lv_istore_n (lv' := [(3, .int (nI 0)), (0, .ref (ad 0)), (1, .int (nI ka)), (2, .int (nI kt))]) hx hb dX1_drop_22 rfl hl (by decide) rfl (fun ls hl => ?_)
          have la : ∀ (na i : Nat) (g1 : Nat → Int32), i + na = 4 → (∀ k, k < i → g1 k = nI (sp_dt kp k)) → ∀ (H : Heap) (locs : List Loc) (ls : Array Slot), sp_Wd D (sp_wY ad dc (sp_aI nb) (sp_aI sk) (sp_aI (sp_dt kp)) (g1) (F) (known) (top)) A s.heap H locs → lv_has ls 4 [(0, .ref (ad 0)), (1, .int (nI ka)), (2, .int (nI kt)), (3, .int (nI i))] → W pg l ev ({ frames := 4, cells := 0, slots := 0, locals := 90 } : Room) s mi args below meth cd H locs 0 0 Q (F0 mi 23 ls []) := by
            intro na
            induction na with
            | zero =>
              intro i g1 hi_i hg H locs ls hW hl
              refine lv_iload_n hx hb dX1_drop_23 rfl (lv_at hl 3 rfl) ?_
              refine lv_iconst (v := nI 4) hx hb dX1_drop_24 (by decide) ?_
              refine sp_icmp_ge (a := i) (b := 4) (tgt := 46) hx hb dX1_drop_25 (by decide) (by omega) (by omega) (fun c => ?_) (fun c => ?_)
              · skip
                have hW := hW.arr 4 rfl (sp_aI (sp_dt kp)) (fun j hj => hg j (by omega))
                have hW : sp_Wd D (sp_wY ad dc (sp_aI nb) (sp_aI sk) (sp_aI (sp_dt kp)) (sp_aI (sp_dt kp)) (F) (known) (top)) A s.heap H locs := hW
                refine lv_aload_n hx hb dX1_drop_46 rfl (lv_at hl 0 rfl) ?_
                refine sp_get1 hC hW 3 (by decide) q191 rfl (v := .ref (ad 4)) rfl dX1_drop_47 ?_
                refine lv_iload_n hx hb dX1_drop_50 rfl (lv_at hl 1 rfl) ?_
                refine lv_dup2_11 hx hb dX1_drop_51 rfl rfl ?_
                refine sp_iald hC hW 4 3 rfl rfl (k := ka) (v := nI (sp_dt kp ka)) (by omega) (by decide) rfl dX1_drop_52 ?_
                refine lv_iload_n hx hb dX1_drop_53 rfl (lv_at hl 2 rfl) ?_
                refine lv_iadd hx hb dX1_drop_54 ?_
                refine sp_top (y := nI (sp_dt kp ka + kt)) (nI_add _ _) ?_
                refine sp_iast hC hW 4 3 rfl rfl (k := ka) (x := nI (sp_dt kp ka + kt)) (by omega) (by decide) (sp_aI (sp_dP2 kp ka kt)) (sp_dP2_st) dX1_drop_55 (fun H locs hW => ?_)
                have hW : sp_Wd D (sp_wY ad dc (sp_aI nb) (sp_aI sk) (sp_aI (sp_dt kp)) (sp_aI (sp_dP2 kp ka kt)) (F) (known) (top)) A s.heap H locs := hW
                refine lv_aload_n hx hb dX1_drop_56 rfl (lv_at hl 0 rfl) ?_
                have htt : sp_tot (sp_dP2 kp ka kt) ≤ 1100 := by
                  have h0 := sp_dt_lt kp 0
                  have h1 := sp_dt_lt kp 1
                  have h2 := sp_dt_lt kp 2
                  have h3 := sp_dt_lt kp 3
                  simp only [sp_tot, sp_dP2]
                  rcases sp_lt4 hka with rfl | rfl | rfl | rfl <;> simp <;> omega
                refine sp_callV (n := 0) (rest := []) hC hW (metX1_settle l D ad dc nb sk hok _ _ _ _ (sp_dP2 kp ka kt) htt) q231 q233 qs16 q31 q234 rfl rfl rfl (by decide +kernel) ⟨by decide, by decide⟩ rfl hl rfl (Nat.le_of_ble_eq_true rfl) ⟨Nat.zero_le _, Nat.zero_le _⟩ dX1_drop_57 (fun u H locs hp hW => ?_)
                have hW : sp_Wd D (sp_wY ad dc (sp_aI nb) (sp_aI sk) (sp_aI (sp_dt kp)) (sp_aI (sp_st (sp_E nb) sk (sp_dP2 kp ka kt))) (F) (known) (nI (sp_ct (sp_E nb) sk (sp_dP2 kp ka kt)))) A s.heap H locs := hW
                refine lv_iconst (v := nI 0) hx hb dX1_drop_60 (by decide) ?_
                refine lv_istore_n (lv' := [(3, .int (nI 0)), (0, .ref (ad 0)), (1, .int (nI ka)), (2, .int (nI kt))]) hx hb dX1_drop_61 rfl hl (by decide) rfl (fun ls hl => ?_)
                have lb : ∀ (nb_ j : Nat) (g2 : Nat → Int32), j + nb_ = 4 → (∀ k, k < j → g2 k = nI (sp_st (sp_E nb) sk (sp_dP2 kp ka kt) k)) → ∀ (H : Heap) (locs : List Loc) (ls : Array Slot), sp_Wd D (sp_wY ad dc (sp_aI nb) (sp_aI sk) (g2) (sp_aI (sp_st (sp_E nb) sk (sp_dP2 kp ka kt))) (F) (known) (nI (sp_ct (sp_E nb) sk (sp_dP2 kp ka kt)))) A s.heap H locs → lv_has ls 4 [(0, .ref (ad 0)), (1, .int (nI ka)), (2, .int (nI kt)), (3, .int (nI j))] → W pg l ev ({ frames := 4, cells := 0, slots := 0, locals := 90 } : Room) s mi args below meth cd H locs 0 0 Q (F0 mi 62 ls []) := by
                  intro nb_
                  induction nb_ with
                  | zero =>
                    intro j g2 hi_j hg2 H locs ls hW hl
                    refine lv_iload_n hx hb dX1_drop_62 rfl (lv_at hl 3 rfl) ?_
                    refine lv_iconst (v := nI 4) hx hb dX1_drop_63 (by decide) ?_
                    refine sp_icmp_ge (a := j) (b := 4) (tgt := 85) hx hb dX1_drop_64 (by decide) (by omega) (by omega) (fun c => ?_) (fun c => ?_)
                    · skip
                      have hW := hW.arr 3 rfl (sp_aI (sp_dt (sp_sp nb sk (sp_dP2 kp ka kt)))) (fun j hj => by rw [hg2 j (by omega)]; exact congrArg nI (sp_sp_dt hok _ j hj).symm)
                      have hW : sp_Wd D (sp_wY ad dc (sp_aI nb) (sp_aI sk) (sp_aI (sp_dt (sp_sp nb sk (sp_dP2 kp ka kt)))) (sp_aI (sp_st (sp_E nb) sk (sp_dP2 kp ka kt))) (F) (known) (nI (sp_ct (sp_E nb) sk (sp_dP2 kp ka kt)))) A s.heap H locs := hW
                      refine lv_aload_n hx hb dX1_drop_85 rfl (lv_at hl 0 rfl) ?_
                      refine sp_get1 hC hW 6 (by decide) q194 rfl (v := .int (nI (sp_ct (sp_E nb) sk (sp_dP2 kp ka kt)))) rfl dX1_drop_86 ?_
                      obtain ⟨hdc, hde, hdv⟩ := sp_dC_p (nb := nb) (sk := sk) (kp := kp) hka c2
                      refine hret _ _ _ _ _ ((sp_aI (sp_st (sp_E nb) sk (sp_dP2 kp ka kt)), F, known, nI (sp_ct (sp_E nb) sk (sp_dP2 kp ka kt)))) dX1_drop_89 rfl ⟨sp_QV.p hdc hdv.symm, hk⟩ ?_
                      rw [hde]
                      exact hW
                    · skip
                      exfalso; omega
                  | succ nb_ ihb =>
                    intro j g2 hi_j hg2 H locs ls hW hl
                    refine lv_iload_n hx hb dX1_drop_62 rfl (lv_at hl 3 rfl) ?_
                    refine lv_iconst (v := nI 4) hx hb dX1_drop_63 (by decide) ?_
                    refine sp_icmp_ge (a := j) (b := 4) (tgt := 85) hx hb dX1_drop_64 (by decide) (by omega) (by omega) (fun c => ?_) (fun c => ?_)
                    · skip
                      exfalso; omega
                    · skip
                      refine lv_aload_n hx hb dX1_drop_67 rfl (lv_at hl 0 rfl) ?_
                      refine sp_get1 hC hW 2 (by decide) q190 rfl (v := .ref (ad 3)) rfl dX1_drop_68 ?_
                      refine lv_iload_n hx hb dX1_drop_71 rfl (lv_at hl 3 rfl) ?_
                      refine lv_aload_n hx hb dX1_drop_72 rfl (lv_at hl 0 rfl) ?_
                      refine sp_get1 hC hW 3 (by decide) q191 rfl (v := .ref (ad 4)) rfl dX1_drop_73 ?_
                      refine lv_iload_n hx hb dX1_drop_76 rfl (lv_at hl 3 rfl) ?_
                      refine sp_iald hC hW 4 3 rfl rfl (k := j) (v := nI (sp_st (sp_E nb) sk (sp_dP2 kp ka kt) j)) (by omega) (by decide) rfl dX1_drop_77 ?_
                      refine sp_iast hC hW 3 2 rfl rfl (k := j) (x := nI (sp_st (sp_E nb) sk (sp_dP2 kp ka kt) j)) (by omega) (by decide) (fun q => if q = j then nI (sp_st (sp_E nb) sk (sp_dP2 kp ka kt) j) else g2 q) (fun _ _ => rfl) dX1_drop_78 (fun H locs hW => ?_)
                      have hW : sp_Wd D (sp_wY ad dc (sp_aI nb) (sp_aI sk) (fun q => if q = j then nI (sp_st (sp_E nb) sk (sp_dP2 kp ka kt) j) else g2 q) (sp_aI (sp_st (sp_E nb) sk (sp_dP2 kp ka kt))) (F) (known) (nI (sp_ct (sp_E nb) sk (sp_dP2 kp ka kt)))) A s.heap H locs := hW
                      refine lv_iinc (v := nI (j + 1)) (lv' := [(3, .int (nI (j + 1))), (0, .ref (ad 0)), (1, .int (nI ka)), (2, .int (nI kt))]) hx hb dX1_drop_79 hl (k := 3) rfl (nI_1 _) (by decide) rfl (fun ls hl => ?_)
                      refine lv_goto (tgt := 62) hx hb dX1_drop_82 (by decide) ?_
                      exact ihb (j + 1) _ (by omega) (lt_s (fun k hk => by show (if k = j then _ else g2 k) = _; rw [if_neg (by omega)]; exact hg2 k hk) (by show (if j = j then _ else _) = _; rw [if_pos rfl])) _ _ _ hW (lv_sub hl [1, 2, 3, 0] rfl)
                exact lb 4 0 _ (by omega) lt_0 _ _ _ hW (lv_sub hl [1, 2, 3, 0] rfl)
              · skip
                exfalso; omega
            | succ na iha =>
              intro i g1 hi_i hg H locs ls hW hl
              refine lv_iload_n hx hb dX1_drop_23 rfl (lv_at hl 3 rfl) ?_
              refine lv_iconst (v := nI 4) hx hb dX1_drop_24 (by decide) ?_
              refine sp_icmp_ge (a := i) (b := 4) (tgt := 46) hx hb dX1_drop_25 (by decide) (by omega) (by omega) (fun c => ?_) (fun c => ?_)
              · skip
                exfalso; omega
              · skip
                refine lv_aload_n hx hb dX1_drop_28 rfl (lv_at hl 0 rfl) ?_
                refine sp_get1 hC hW 3 (by decide) q191 rfl (v := .ref (ad 4)) rfl dX1_drop_29 ?_
                refine lv_iload_n hx hb dX1_drop_32 rfl (lv_at hl 3 rfl) ?_
                refine lv_aload_n hx hb dX1_drop_33 rfl (lv_at hl 0 rfl) ?_
                refine sp_get1 hC hW 2 (by decide) q190 rfl (v := .ref (ad 3)) rfl dX1_drop_34 ?_
                refine lv_iload_n hx hb dX1_drop_37 rfl (lv_at hl 3 rfl) ?_
                refine sp_iald hC hW 3 2 rfl rfl (k := i) (v := nI (sp_dt kp i)) (by omega) (by decide) rfl dX1_drop_38 ?_
                refine sp_iast hC hW 4 3 rfl rfl (k := i) (x := nI (sp_dt kp i)) (by omega) (by decide) (fun q => if q = i then nI (sp_dt kp i) else g1 q) (fun _ _ => rfl) dX1_drop_39 (fun H locs hW => ?_)
                have hW : sp_Wd D (sp_wY ad dc (sp_aI nb) (sp_aI sk) (sp_aI (sp_dt kp)) (fun q => if q = i then nI (sp_dt kp i) else g1 q) (F) (known) (top)) A s.heap H locs := hW
                refine lv_iinc (v := nI (i + 1)) (lv' := [(3, .int (nI (i + 1))), (0, .ref (ad 0)), (1, .int (nI ka)), (2, .int (nI kt))]) hx hb dX1_drop_40 hl (k := 3) rfl (nI_1 _) (by decide) rfl (fun ls hl => ?_)
                refine lv_goto (tgt := 23) hx hb dX1_drop_43 (by decide) ?_
                exact iha (i + 1) _ (by omega) (lt_s (fun k hk => by show (if k = i then _ else g1 k) = _; rw [if_neg (by omega)]; exact hg k hk) (by show (if i = i then _ else _) = _; rw [if_pos rfl])) _ _ _ hW (lv_sub hl [1, 2, 3, 0] rfl)
          exact la 4 0 Wk (by omega) lt_0 _ _ _ hW (lv_sub hl [1, 2, 3, 0] rfl)
        · skip
          refine lv_iconst (v := (-1)) hx hb dX1_drop_19 (by decide) ?_
          have hn : ¬ sp_dC (nI ka) (nI kt) := fun q => by have := (nI_leI (b := 1000) hkt (by decide)).mp q.2.2; omega
          refine hret _ _ _ _ _ ((Wk, F, known, top)) dX1_drop_20 rfl ⟨sp_QV.n hn, hk⟩ ?_
          rw [sp_kpD_n hn]
          exact hW
  · skip
    have hp1 : r = nI 0 := hp.2 hPa
    subst hp1
    refine sp_if_eq (a := 0) (tgt := 19) hx hb dX1_drop_5 (by decide) (by omega) (fun cK => ?_) (fun cK => ?_)
    · skip
      refine lv_iconst (v := (-1)) hx hb dX1_drop_19 (by decide) ?_
      have hn : ¬ sp_dC (a) (t) := fun q => hPa q.1
      refine hret _ _ _ _ _ ((Wk, F, known, top)) dX1_drop_20 rfl ⟨sp_QV.n hn, hk⟩ ?_
      rw [sp_kpD_n hn]
      exact hW
    · skip
      exfalso; omega
set_option maxHeartbeats 4000000 in
set_option maxRecDepth 100000 in
/-- state -/
theorem metX1_state (l : Launch) (D : va_G) (ad : Nat → Nat) (dc : Nat → ClassId) (nb sk : Nat → Nat) (hok : sp_Ok nb sk) (kp : Nat) (hkp : sp_KP nb sk kp) (Wk F : Nat → Int32) (known top : Int32) (hk : sp_KF nb sk known F)  : sp_MI l D (sp_tY dc) yX1_state cX1_state 1 .int ({ frames := 0, cells := 0, slots := 0, locals := 0 } : Room) [.ref (ad 0)] (sp_wY ad dc (sp_aI nb) (sp_aI sk) (sp_aI (sp_dt kp)) (Wk) (F) (known) (top)) (S := (Nat → Int32) × (Nat → Int32) × Int32 × Int32) (fun r u => r = nI kp ∧ sp_KF nb sk u.2.2.1 u.2.1) (fun u => sp_wY ad dc (sp_aI nb) (sp_aI sk) (sp_aI (sp_dt kp)) (u.1) (u.2.1) (u.2.2.1) (u.2.2.2)) := by
  refine sp_entI (own := RX1) (by decide) rfl (Nat.le_of_ble_eq_true rfl) ?_
  intro pg ev s mi args below meth cd A Q ls hC hW hret hl
  obtain ⟨hx, hb, -⟩ := id hC
  have hl : lv_has ls 1 [(0, .ref (ad 0))] := hl
  refine lv_sipush (v := nI 512) hx hb dX1_state_0 (by decide) ?_
  refine lv_aload_n hx hb dX1_state_3 rfl (lv_at hl 0 rfl) ?_
  refine sp_get1 hC hW 2 (by decide) q190 rfl (v := .ref (ad 3)) rfl dX1_state_4 ?_
  refine lv_iconst (v := nI 0) hx hb dX1_state_7 (by decide) ?_
  refine sp_iald hC hW 3 2 rfl rfl (k := 0) (v := nI (sp_dt kp 0)) (by omega) (by decide) rfl dX1_state_8 ?_
  refine lv_imul hx hb dX1_state_9 ?_
  refine sp_top (y := nI (512 * (sp_dt kp 0))) (pk_mul _ _) ?_
  refine lv_bipush (v := nI 64) hx hb dX1_state_10 (by decide) ?_
  refine lv_aload_n hx hb dX1_state_12 rfl (lv_at hl 0 rfl) ?_
  refine sp_get1 hC hW 2 (by decide) q190 rfl (v := .ref (ad 3)) rfl dX1_state_13 ?_
  refine lv_iconst (v := nI 1) hx hb dX1_state_16 (by decide) ?_
  refine sp_iald hC hW 3 2 rfl rfl (k := 1) (v := nI (sp_dt kp 1)) (by omega) (by decide) rfl dX1_state_17 ?_
  refine lv_imul hx hb dX1_state_18 ?_
  refine sp_top (y := nI (64 * (sp_dt kp 1))) (pk_mul _ _) ?_
  refine lv_iadd hx hb dX1_state_19 ?_
  refine sp_top (y := nI (512 * (sp_dt kp 0) + (64 * (sp_dt kp 1)))) (nI_add _ _) ?_
  refine lv_bipush (v := nI 8) hx hb dX1_state_20 (by decide) ?_
  refine lv_aload_n hx hb dX1_state_22 rfl (lv_at hl 0 rfl) ?_
  refine sp_get1 hC hW 2 (by decide) q190 rfl (v := .ref (ad 3)) rfl dX1_state_23 ?_
  refine lv_iconst (v := nI 2) hx hb dX1_state_26 (by decide) ?_
  refine sp_iald hC hW 3 2 rfl rfl (k := 2) (v := nI (sp_dt kp 2)) (by omega) (by decide) rfl dX1_state_27 ?_
  refine lv_imul hx hb dX1_state_28 ?_
  refine sp_top (y := nI (8 * (sp_dt kp 2))) (pk_mul _ _) ?_
  refine lv_iadd hx hb dX1_state_29 ?_
  refine sp_top (y := nI (512 * (sp_dt kp 0) + (64 * (sp_dt kp 1)) + (8 * (sp_dt kp 2)))) (nI_add _ _) ?_
  refine lv_aload_n hx hb dX1_state_30 rfl (lv_at hl 0 rfl) ?_
  refine sp_get1 hC hW 2 (by decide) q190 rfl (v := .ref (ad 3)) rfl dX1_state_31 ?_
  refine lv_iconst (v := nI 3) hx hb dX1_state_34 (by decide) ?_
  refine sp_iald hC hW 3 2 rfl rfl (k := 3) (v := nI (sp_dt kp 3)) (by omega) (by decide) rfl dX1_state_35 ?_
  refine lv_iadd hx hb dX1_state_36 ?_
  refine sp_top (y := nI (512 * (sp_dt kp 0) + (64 * (sp_dt kp 1)) + (8 * (sp_dt kp 2)) + (sp_dt kp 3))) (nI_add _ _) ?_
  exact hret _ _ _ _ _ ((Wk, F, known, top)) dX1_state_37 (rfl) (⟨congrArg nI (sp_pk_dt hkp.1), hk⟩) hW
set_option maxHeartbeats 4000000 in
set_option maxRecDepth 100000 in
/-- set -/
theorem metX1_set (l : Launch) (D : va_G) (ad : Nat → Nat) (dc : Nat → ClassId) (nb sk : Nat → Nat) (hok : sp_Ok nb sk) (kp : Nat) (hkp : sp_KP nb sk kp) (Wk F : Nat → Int32) (known top : Int32) (hk : sp_KF nb sk known F) (x : Int32) : sp_MI l D (sp_tY dc) yX1_set cX1_set 3 .boolean ({ frames := 3, cells := 0, slots := 0, locals := 67 } : Room) [.ref (ad 0), .int x] (sp_wY ad dc (sp_aI nb) (sp_aI sk) (sp_aI (sp_dt kp)) (Wk) (F) (known) (top)) (S := (Nat → Int32) × (Nat → Int32) × Int32 × Int32) (fun r u => sp_QB (sp_isS nb sk x) r ∧ sp_KF nb sk u.2.2.1 u.2.1) (fun u => sp_wY ad dc (sp_aI nb) (sp_aI sk) (sp_aI (sp_dt (sp_kpT nb sk kp x))) (u.1) (u.2.1) (u.2.2.1) (u.2.2.2)) := by
  refine sp_entI (own := RX1) (by decide) rfl (Nat.le_of_ble_eq_true rfl) ?_
  intro pg ev s mi args below meth cd A Q ls hC hW hret hl
  obtain ⟨hx, hb, -⟩ := id hC
  have hl : lv_has ls 3 [(0, .ref (ad 0)), (1, .int x)] := hl
  refine lv_aload_n hx hb dX1_set_0 rfl (lv_at hl 0 rfl) ?_
  refine lv_iload_n hx hb dX1_set_1 rfl (lv_at hl 1 rfl) ?_
  refine sp_callI (n := 1) (rest := []) hC hW (metX1_isStable l D ad dc nb sk hok _ _ _ _ _ (x)) q255 q257 qs20 q31 q258 rfl rfl rfl (by decide +kernel) ⟨by decide, by decide⟩ rfl hl rfl (Nat.le_of_ble_eq_true rfl) ⟨Nat.zero_le _, Nat.zero_le _⟩ dX1_set_2 (fun r u H locs hp hW => ?_)
  have hW : sp_Wd D (sp_wY ad dc (sp_aI nb) (sp_aI sk) (sp_aI (sp_dt kp)) (Wk) (F) (known) (top)) A s.heap H locs := hW
  by_cases hs : sp_isS nb sk x
  · skip
    have hp1 : r = nI 1 := hp.1 hs
    subst hp1
    refine sp_if_ne (a := 1) (tgt := 10) hx hb dX1_set_5 (by decide) (by omega) (fun cK => ?_) (fun cK => ?_)
    · skip
      have hs2 := hs
      obtain ⟨y, hy, rfl, hsb⟩ := hs
      refine lv_iconst (v := nI 0) hx hb dX1_set_10 (by decide) ?_
      refine lv_istore_n (lv' := [(2, .int (nI 0)), (0, .ref (ad 0)), (1, .int (nI y))]) hx hb dX1_set_11 rfl hl (by decide) rfl (fun ls hl => ?_)
      have loop : ∀ (n i : Nat) (g1 : Nat → Int32), i + n = 4 → (∀ k, k < i → g1 k = nI (sp_dt y k)) → ∀ (H : Heap) (locs : List Loc) (ls : Array Slot), sp_Wd D (sp_wY ad dc (sp_aI nb) (sp_aI sk) (g1) (Wk) (F) (known) (top)) A s.heap H locs → lv_has ls 3 [(0, .ref (ad 0)), (1, .int (nI y)), (2, .int (nI i))] → W pg l ev ({ frames := 3, cells := 0, slots := 0, locals := 67 } : Room) s mi args below meth cd H locs 0 0 Q (F0 mi 12 ls []) := by
        intro n
        induction n with
        | zero =>
          intro i g1 hi_i hg H locs ls hW hl
          refine lv_iload_n hx hb dX1_set_12 rfl (lv_at hl 2 rfl) ?_
          refine lv_iconst (v := nI 4) hx hb dX1_set_13 (by decide) ?_
          refine sp_icmp_ge (a := i) (b := 4) (tgt := 35) hx hb dX1_set_14 (by decide) (by omega) (by omega) (fun c => ?_) (fun c => ?_)
          · skip
            have hW := hW.arr 3 rfl (sp_aI (sp_dt y)) (fun j hj => hg j (by omega))
            have hW : sp_Wd D (sp_wY ad dc (sp_aI nb) (sp_aI sk) (sp_aI (sp_dt y)) (Wk) (F) (known) (top)) A s.heap H locs := hW
            refine lv_iconst (v := nI 1) hx hb dX1_set_35 (by decide) ?_
            refine hret _ _ _ _ _ ((Wk, F, known, top)) dX1_set_36 rfl ⟨sp_QB.p hs2, hk⟩ ?_
            unfold sp_kpT
            rw [sp_ite_p hs2, nI_clamp (by omega)]
            exact hW
          · skip
            exfalso; omega
        | succ n ih =>
          intro i g1 hi_i hg H locs ls hW hl
          refine lv_iload_n hx hb dX1_set_12 rfl (lv_at hl 2 rfl) ?_
          refine lv_iconst (v := nI 4) hx hb dX1_set_13 (by decide) ?_
          refine sp_icmp_ge (a := i) (b := 4) (tgt := 35) hx hb dX1_set_14 (by decide) (by omega) (by omega) (fun c => ?_) (fun c => ?_)
          · skip
            exfalso; omega
          · skip
            refine lv_aload_n hx hb dX1_set_17 rfl (lv_at hl 0 rfl) ?_
            refine sp_get1 hC hW 2 (by decide) q190 rfl (v := .ref (ad 3)) rfl dX1_set_18 ?_
            refine lv_iload_n hx hb dX1_set_21 rfl (lv_at hl 2 rfl) ?_
            refine lv_aload_n hx hb dX1_set_22 rfl (lv_at hl 0 rfl) ?_
            refine lv_iload_n hx hb dX1_set_23 rfl (lv_at hl 1 rfl) ?_
            refine lv_iload_n hx hb dX1_set_24 rfl (lv_at hl 2 rfl) ?_
            refine sp_callI (n := 2) (rest := [.int (nI i), .ref (ad 3)]) hC hW (metX1_digit l D ad dc _ (ad 0) _ _ (y) (i) (by omega) (by omega)) q259 q261 qs21 q31 q262 rfl rfl rfl (by decide +kernel) ⟨by decide, by decide⟩ rfl hl rfl (Nat.le_of_ble_eq_true rfl) ⟨Nat.zero_le _, Nat.zero_le _⟩ dX1_set_25 (fun r u H locs hp hW => ?_)
            have hp : r = nI (sp_dt y i) := hp
            subst hp
            have hW : sp_Wd D (sp_wY ad dc (sp_aI nb) (sp_aI sk) (g1) (Wk) (F) (known) (top)) A s.heap H locs := hW
            refine sp_iast hC hW 3 2 rfl rfl (k := i) (x := nI (sp_dt y i)) (by omega) (by decide) (fun q => if q = i then nI (sp_dt y i) else g1 q) (fun _ _ => rfl) dX1_set_28 (fun H locs hW => ?_)
            have hW : sp_Wd D (sp_wY ad dc (sp_aI nb) (sp_aI sk) (fun q => if q = i then nI (sp_dt y i) else g1 q) (Wk) (F) (known) (top)) A s.heap H locs := hW
            refine lv_iinc (v := nI (i + 1)) (lv' := [(2, .int (nI (i + 1))), (0, .ref (ad 0)), (1, .int (nI y))]) hx hb dX1_set_29 hl (k := 2) rfl (nI_1 _) (by decide) rfl (fun ls hl => ?_)
            refine lv_goto (tgt := 12) hx hb dX1_set_32 (by decide) ?_
            exact ih (i + 1) _ (by omega) (lt_s (fun k hk => by show (if k = i then _ else g1 k) = _; rw [if_neg (by omega)]; exact hg k hk) (by show (if i = i then _ else _) = _; rw [if_pos rfl])) _ _ _ hW (lv_sub hl [1, 2, 0] rfl)
      exact loop 4 0 _ (by omega) lt_0 _ _ _ hW (lv_sub hl [1, 2, 0] rfl)
    · skip
      exfalso; omega
  · skip
    have hp1 : r = nI 0 := hp.2 hs
    subst hp1
    refine sp_if_ne (a := 0) (tgt := 10) hx hb dX1_set_5 (by decide) (by omega) (fun cK => ?_) (fun cK => ?_)
    · skip
      exfalso; omega
    · skip
      refine lv_iconst (v := nI 0) hx hb dX1_set_8 (by decide) ?_
      refine hret _ _ _ _ _ ((Wk, F, known, top)) dX1_set_9 rfl ⟨sp_QB.n hs, hk⟩ ?_
      unfold sp_kpT
      rw [sp_ite_n hs]
      exact hW
set_option maxHeartbeats 4000000 in
set_option maxRecDepth 100000 in
/-- degree -/
theorem metX1_degree (l : Launch) (D : va_G) (ad : Nat → Nat) (dc : Nat → ClassId) (nb sk : Nat → Nat) (hok : sp_Ok nb sk) (kp : Nat) (hkp : sp_KP nb sk kp) (Wk F : Nat → Int32) (known top : Int32) (hk : sp_KF nb sk known F) (a : Int32) : sp_MI l D (sp_tY dc) yX1_degree cX1_degree 2 .int ({ frames := 2, cells := 0, slots := 0, locals := 45 } : Room) [.ref (ad 0), .int a] (sp_wY ad dc (sp_aI nb) (sp_aI sk) (sp_aI (sp_dt kp)) (Wk) (F) (known) (top)) (S := (Nat → Int32) × (Nat → Int32) × Int32 × Int32) (fun r u => sp_QV (sp_isP a) (nI (sp_dg (sp_E nb) sk a.toNatClampNeg)) r ∧ sp_KF nb sk u.2.2.1 u.2.1) (fun u => sp_wY ad dc (sp_aI nb) (sp_aI sk) (sp_aI (sp_dt kp)) (u.1) (u.2.1) (u.2.2.1) (u.2.2.2)) := by
  refine sp_entI (own := RX1) (by decide) rfl (Nat.le_of_ble_eq_true rfl) ?_
  intro pg ev s mi args below meth cd A Q ls hC hW hret hl
  obtain ⟨hx, hb, -⟩ := id hC
  have hl : lv_has ls 2 [(0, .ref (ad 0)), (1, .int a)] := hl
  refine lv_aload_n hx hb dX1_degree_0 rfl (lv_at hl 0 rfl) ?_
  refine lv_iload_n hx hb dX1_degree_1 rfl (lv_at hl 1 rfl) ?_
  refine sp_callI (n := 1) (rest := []) hC hW (metX1_isPlace l D ad dc _ (ad 0) _ _ (a)) q215 q217 qs14 q31 q218 rfl rfl rfl (by decide +kernel) ⟨by decide, by decide⟩ rfl hl rfl (Nat.le_of_ble_eq_true rfl) ⟨Nat.zero_le _, Nat.zero_le _⟩ dX1_degree_2 (fun r u H locs hp hW => ?_)
  have hW : sp_Wd D (sp_wY ad dc (sp_aI nb) (sp_aI sk) (sp_aI (sp_dt kp)) (Wk) (F) (known) (top)) A s.heap H locs := hW
  by_cases hPa : sp_isP a
  · skip
    have hp1 : r = nI 1 := hp.1 hPa
    subst hp1
    refine sp_if_eq (a := 1) (tgt := 16) hx hb dX1_degree_5 (by decide) (by omega) (fun cK => ?_) (fun cK => ?_)
    · skip
      exfalso; omega
    · skip
      have hP2 := hPa
      obtain ⟨ka, hka, rfl⟩ := sp_pl4 hPa.1 hPa.2
      refine lv_aload_n hx hb dX1_degree_8 rfl (lv_at hl 0 rfl) ?_
      refine lv_iload_n hx hb dX1_degree_9 rfl (lv_at hl 1 rfl) ?_
      refine sp_callI (n := 1) (rest := []) hC hW (metX1_degreeOf l D ad dc nb sk hok _ _ _ _ _ ka hka) q235 q237 qs17 q31 q238 rfl rfl rfl (by decide +kernel) ⟨by decide, by decide⟩ rfl hl rfl (Nat.le_of_ble_eq_true rfl) ⟨Nat.zero_le _, Nat.zero_le _⟩ dX1_degree_10 (fun r u H locs hp hW => ?_)
      have hp : r = nI (sp_dg (sp_E nb) sk ka) := hp
      subst hp
      have hW : sp_Wd D (sp_wY ad dc (sp_aI nb) (sp_aI sk) (sp_aI (sp_dt kp)) (Wk) (F) (known) (top)) A s.heap H locs := hW
      refine lv_goto (tgt := 17) hx hb dX1_degree_13 (by decide) ?_
      exact hret _ _ _ _ _ ((Wk, F, known, top)) dX1_degree_17 (rfl) (⟨sp_QV.p hP2 (by rw [nI_clamp (by omega)]), hk⟩) hW
  · skip
    have hp1 : r = nI 0 := hp.2 hPa
    subst hp1
    refine sp_if_eq (a := 0) (tgt := 16) hx hb dX1_degree_5 (by decide) (by omega) (fun cK => ?_) (fun cK => ?_)
    · skip
      refine lv_iconst (v := (-1)) hx hb dX1_degree_16 (by decide) ?_
      exact hret _ _ _ _ _ ((Wk, F, known, top)) dX1_degree_17 (rfl) (⟨sp_QV.n hPa, hk⟩) hW
    · skip
      exfalso; omega
set_option maxHeartbeats 4000000 in
set_option maxRecDepth 100000 in
/-- recurrent -/
theorem metX1_recurrent (l : Launch) (D : va_G) (ad : Nat → Nat) (dc : Nat → ClassId) (nb sk : Nat → Nat) (hok : sp_Ok nb sk) (kp : Nat) (hkp : sp_KP nb sk kp) (Wk F : Nat → Int32) (known top : Int32) (hk : sp_KF nb sk known F) (x : Int32) : sp_MI l D (sp_tY dc) yX1_recurrent cX1_recurrent 2 .boolean ({ frames := 8, cells := 0, slots := 0, locals := 181 } : Room) [.ref (ad 0), .int x] (sp_wY ad dc (sp_aI nb) (sp_aI sk) (sp_aI (sp_dt kp)) (Wk) (F) (known) (top)) (S := (Nat → Int32) × (Nat → Int32) × Int32 × Int32) (fun r u => sp_QB (sp_isR nb sk x) r ∧ sp_KF nb sk u.2.2.1 u.2.1) (fun u => sp_wY ad dc (sp_aI nb) (sp_aI sk) (sp_aI (sp_dt kp)) (u.1) (u.2.1) (u.2.2.1) (u.2.2.2)) := by
  refine sp_entI (own := RX1) (by decide) rfl (Nat.le_of_ble_eq_true rfl) ?_
  intro pg ev s mi args below meth cd A Q ls hC hW hret hl
  obtain ⟨hx, hb, -⟩ := id hC
  have hl : lv_has ls 2 [(0, .ref (ad 0)), (1, .int x)] := hl
  refine lv_aload_n hx hb dX1_recurrent_0 rfl (lv_at hl 0 rfl) ?_
  refine lv_iload_n hx hb dX1_recurrent_1 rfl (lv_at hl 1 rfl) ?_
  refine sp_callI (n := 1) (rest := []) hC hW (metX1_isRecurrent l D ad dc nb sk hok _ _ _ _ _ (hk) (x)) q271 q273 qs22 q31 q274 rfl rfl rfl (by decide +kernel) ⟨by decide, by decide⟩ rfl hl rfl (Nat.le_of_ble_eq_true rfl) ⟨Nat.zero_le _, Nat.zero_le _⟩ dX1_recurrent_2 (fun r u H locs hp hW => ?_)
  obtain ⟨W3, t3⟩ := u
  have hW : sp_Wd D (sp_wY ad dc (sp_aI nb) (sp_aI sk) (sp_aI (sp_dt kp)) (W3) (sp_bF (sp_rB nb sk)) (nI 1) (t3)) A s.heap H locs := hW
  have hrn : narrow .boolean (.int r) = .int r := by
    by_cases q : sp_isR nb sk x
    · rw [hp.1 q]; rfl
    · rw [hp.2 q]; rfl
  exact hret _ _ _ _ _ ((W3, sp_bF (sp_rB nb sk), nI 1, t3)) dX1_recurrent_5 (hrn) (⟨hp, Or.inr ⟨rfl, fun _ _ => rfl⟩⟩) hW
set_option maxHeartbeats 4000000 in
set_option maxRecDepth 100000 in
/-- order -/
theorem metX1_order (l : Launch) (D : va_G) (ad : Nat → Nat) (dc : Nat → ClassId) (nb sk : Nat → Nat) (hok : sp_Ok nb sk) (kp : Nat) (hkp : sp_KP nb sk kp) (Wk F : Nat → Int32) (known top : Int32) (hk : sp_KF nb sk known F)  : sp_MI l D (sp_tY dc) yX1_order cX1_order 3 .int ({ frames := 7, cells := 0, slots := 0, locals := 160 } : Room) [.ref (ad 0)] (sp_wY ad dc (sp_aI nb) (sp_aI sk) (sp_aI (sp_dt kp)) (Wk) (F) (known) (top)) (S := (Nat → Int32) × (Nat → Int32) × Int32 × Int32) (fun r u => r = nI (sp_cn nb sk) ∧ sp_KF nb sk u.2.2.1 u.2.1) (fun u => sp_wY ad dc (sp_aI nb) (sp_aI sk) (sp_aI (sp_dt kp)) (u.1) (u.2.1) (u.2.2.1) (u.2.2.2)) := by
  refine sp_entI (own := RX1) (by decide) rfl (Nat.le_of_ble_eq_true rfl) ?_
  intro pg ev s mi args below meth cd A Q ls hC hW hret hl
  obtain ⟨hx, hb, -⟩ := id hC
  have hl : lv_has ls 3 [(0, .ref (ad 0))] := hl
  refine lv_aload_n hx hb dX1_order_0 rfl (lv_at hl 0 rfl) ?_
  refine sp_callV (n := 0) (rest := []) hC hW (metX1_findRecurrent l D ad dc nb sk hok _ _ _ _ _ hk) q275 q277 qs23 q31 q278 rfl rfl rfl (by decide +kernel) ⟨by decide, by decide⟩ rfl hl rfl (Nat.le_of_ble_eq_true rfl) ⟨Nat.zero_le _, Nat.zero_le _⟩ dX1_order_1 (fun u H locs hp hW => ?_)
  obtain ⟨W3, t3⟩ := u
  have hW : sp_Wd D (sp_wY ad dc (sp_aI nb) (sp_aI sk) (sp_aI (sp_dt kp)) (W3) (sp_bF (sp_rB nb sk)) (nI 1) (t3)) A s.heap H locs := hW
  refine lv_iconst (v := nI 0) hx hb dX1_order_4 (by decide) ?_
  refine lv_istore_n (lv' := [(1, .int (nI 0)), (0, .ref (ad 0))]) hx hb dX1_order_5 rfl hl (by decide) rfl (fun ls hl => ?_)
  refine lv_iconst (v := nI 0) hx hb dX1_order_6 (by decide) ?_
  refine lv_istore_n (lv' := [(2, .int (nI 0)), (1, .int (nI 0)), (0, .ref (ad 0))]) hx hb dX1_order_7 rfl hl (by decide) rfl (fun ls hl => ?_)
  have loop : ∀ (n i : Nat) , i + n = 4096 → ∀ (H : Heap) (locs : List Loc) (ls : Array Slot), sp_Wd D (sp_wY ad dc (sp_aI nb) (sp_aI sk) (sp_aI (sp_dt kp)) (W3) (sp_bF (sp_rB nb sk)) (nI 1) (t3)) A s.heap H locs → lv_has ls 3 [(0, .ref (ad 0)), (1, .int (nI (sp_sm i (fun s => if sp_rB nb sk s = true then 1 else 0)))), (2, .int (nI i))] → W pg l ev ({ frames := 7, cells := 0, slots := 0, locals := 160 } : Room) s mi args below meth cd H locs 0 0 Q (F0 mi 8 ls []) := by
    intro n
    induction n with
    | zero =>
      intro i hi_i H locs ls hW hl
      refine lv_iload_n hx hb dX1_order_8 rfl (lv_at hl 2 rfl) ?_
      refine lv_sipush (v := nI 4096) hx hb dX1_order_9 (by decide) ?_
      refine sp_icmp_ge (a := i) (b := 4096) (tgt := 33) hx hb dX1_order_12 (by decide) (by omega) (by omega) (fun c => ?_) (fun c => ?_)
      · skip
        have e4 : i = 4096 := by omega
        subst e4
        refine lv_iload_n hx hb dX1_order_33 rfl (lv_at hl 1 rfl) ?_
        exact hret _ _ _ _ _ ((W3, sp_bF (sp_rB nb sk), nI 1, t3)) dX1_order_34 (rfl) (⟨rfl, Or.inr ⟨rfl, fun _ _ => rfl⟩⟩) hW
      · skip
        exfalso; omega
    | succ n ih =>
      intro i hi_i H locs ls hW hl
      refine lv_iload_n hx hb dX1_order_8 rfl (lv_at hl 2 rfl) ?_
      refine lv_sipush (v := nI 4096) hx hb dX1_order_9 (by decide) ?_
      refine sp_icmp_ge (a := i) (b := 4096) (tgt := 33) hx hb dX1_order_12 (by decide) (by omega) (by omega) (fun c => ?_) (fun c => ?_)
      · skip
        exfalso; omega
      · skip
        refine lv_aload_n hx hb dX1_order_15 rfl (lv_at hl 0 rfl) ?_
        refine sp_get1 hC hW 4 (by decide) q192 rfl (v := .ref (ad 5)) rfl dX1_order_16 ?_
        refine lv_iload_n hx hb dX1_order_19 rfl (lv_at hl 2 rfl) ?_
        refine sp_zald hC hW 5 4 rfl rfl (k := i) (v := (sp_bF (sp_rB nb sk)) (i)) (by omega) (by decide) rfl dX1_order_20 ?_
        by_cases hf : sp_rB nb sk i = true
        · skip
          refine sp_top (y := nI 1) (if_pos hf) ?_
          refine sp_if_eq (a := 1) (tgt := 27) hx hb dX1_order_21 (by decide) (by omega) (fun cK => ?_) (fun cK => ?_)
          · skip
            exfalso; omega
          · skip
            refine lv_iinc (v := nI (sp_sm i (fun s => if sp_rB nb sk s = true then 1 else 0) + 1)) (lv' := [(1, .int (nI (sp_sm i (fun s => if sp_rB nb sk s = true then 1 else 0) + 1))), (0, .ref (ad 0)), (2, .int (nI i))]) hx hb dX1_order_24 hl (k := 1) rfl (nI_1 _) (by decide) rfl (fun ls hl => ?_)
            refine lv_iinc (v := nI (i + 1)) (lv' := [(2, .int (nI (i + 1))), (1, .int (nI (sp_sm i (fun s => if sp_rB nb sk s = true then 1 else 0) + 1))), (0, .ref (ad 0))]) hx hb dX1_order_27 hl (k := 2) rfl (nI_1 _) (by decide) rfl (fun ls hl => ?_)
            refine lv_goto (tgt := 8) hx hb dX1_order_30 (by decide) ?_
            have hE : sp_sm (i + 1) (fun s => if sp_rB nb sk s = true then 1 else 0) = sp_sm i (fun s => if sp_rB nb sk s = true then 1 else 0) + 1 := by rw [sp_sm_s, if_pos hf]
            exact ih (i + 1) (by omega) _ _ _ hW (by rw [hE]; exact lv_sub hl [2, 1, 0] rfl)
        · skip
          refine sp_top (y := nI 0) (if_neg hf) ?_
          refine sp_if_eq (a := 0) (tgt := 27) hx hb dX1_order_21 (by decide) (by omega) (fun cK => ?_) (fun cK => ?_)
          · skip
            refine lv_iinc (v := nI (i + 1)) (lv' := [(2, .int (nI (i + 1))), (0, .ref (ad 0)), (1, .int (nI (sp_sm i (fun s => if sp_rB nb sk s = true then 1 else 0))))]) hx hb dX1_order_27 hl (k := 2) rfl (nI_1 _) (by decide) rfl (fun ls hl => ?_)
            refine lv_goto (tgt := 8) hx hb dX1_order_30 (by decide) ?_
            have hE : sp_sm (i + 1) (fun s => if sp_rB nb sk s = true then 1 else 0) = sp_sm i (fun s => if sp_rB nb sk s = true then 1 else 0) := by rw [sp_sm_s, if_neg hf, Nat.add_zero]
            exact ih (i + 1) (by omega) _ _ _ hW (by rw [hE]; exact lv_sub hl [1, 2, 0] rfl)
          · skip
            exfalso; omega
  exact loop 4096 0 (by omega) _ _ _ hW (lv_sub hl [2, 1, 0] rfl)
set_option maxHeartbeats 4000000 in
set_option maxRecDepth 100000 in
/-- neutral -/
theorem metX1_neutral (l : Launch) (D : va_G) (ad : Nat → Nat) (dc : Nat → ClassId) (nb sk : Nat → Nat) (hok : sp_Ok nb sk) (kp : Nat) (hkp : sp_KP nb sk kp) (Wk F : Nat → Int32) (known top : Int32) (hk : sp_KF nb sk known F)  : sp_MI l D (sp_tY dc) yX1_neutral cX1_neutral 1 .int ({ frames := 9, cells := 0, slots := 0, locals := 203 } : Room) [.ref (ad 0)] (sp_wY ad dc (sp_aI nb) (sp_aI sk) (sp_aI (sp_dt kp)) (Wk) (F) (known) (top)) (S := (Nat → Int32) × (Nat → Int32) × Int32 × Int32) (fun r u => r = nI (sp_ne nb sk) ∧ sp_KF nb sk u.2.2.1 u.2.1) (fun u => sp_wY ad dc (sp_aI nb) (sp_aI sk) (sp_aI (sp_dt kp)) (u.1) (u.2.1) (u.2.2.1) (u.2.2.2)) := by
  refine sp_entI (own := RX1) (by decide) rfl (Nat.le_of_ble_eq_true rfl) ?_
  intro pg ev s mi args below meth cd A Q ls hC hW hret hl
  obtain ⟨hx, hb, -⟩ := id hC
  have hl : lv_has ls 1 [(0, .ref (ad 0))] := hl
  refine lv_aload_n hx hb dX1_neutral_0 rfl (lv_at hl 0 rfl) ?_
  refine sp_callI (n := 0) (rest := []) hC hW (metX1_neutralState l D ad dc nb sk hok _ _ _ _ _ (hk)) q303 q305 qs28 q31 q306 rfl rfl rfl (by decide +kernel) ⟨by decide, by decide⟩ rfl hl rfl (Nat.le_of_ble_eq_true rfl) ⟨Nat.zero_le _, Nat.zero_le _⟩ dX1_neutral_1 (fun r u H locs hp hW => ?_)
  obtain ⟨kn9, F9, W9, t9⟩ := u
  obtain ⟨hp, hkn9⟩ := hp
  have hp : r = nI (sp_ne nb sk) := hp
  subst hp
  have hkn9 : sp_KF nb sk kn9 F9 := hkn9
  have hW : sp_Wd D (sp_wY ad dc (sp_aI nb) (sp_aI sk) (sp_aI (sp_dt kp)) (W9) (F9) (kn9) (t9)) A s.heap H locs := hW
  exact hret _ _ _ _ _ ((W9, F9, kn9, t9)) dX1_neutral_4 (rfl) (⟨rfl, hkn9⟩) hW
set_option maxHeartbeats 4000000 in
set_option maxRecDepth 100000 in
/-- opposite -/
theorem metX1_opposite (l : Launch) (D : va_G) (ad : Nat → Nat) (dc : Nat → ClassId) (nb sk : Nat → Nat) (hok : sp_Ok nb sk) (kp : Nat) (hkp : sp_KP nb sk kp) (Wk F : Nat → Int32) (known top : Int32) (hk : sp_KF nb sk known F) (x : Int32) : sp_MI l D (sp_tY dc) yX1_opposite cX1_opposite 4 .int ({ frames := 9, cells := 0, slots := 0, locals := 203 } : Room) [.ref (ad 0), .int x] (sp_wY ad dc (sp_aI nb) (sp_aI sk) (sp_aI (sp_dt kp)) (Wk) (F) (known) (top)) (S := (Nat → Int32) × (Nat → Int32) × Int32 × Int32) (fun r u => sp_QV (sp_isR nb sk x) (nI (sp_op nb sk x.toNatClampNeg)) r ∧ sp_KF nb sk u.2.2.1 u.2.1) (fun u => sp_wY ad dc (sp_aI nb) (sp_aI sk) (sp_aI (sp_dt kp)) (u.1) (u.2.1) (u.2.2.1) (u.2.2.2)) := by
  refine sp_entI (own := RX1) (by decide) rfl (Nat.le_of_ble_eq_true rfl) ?_
  intro pg ev s mi args below meth cd A Q ls hC hW hret hl
  obtain ⟨hx, hb, -⟩ := id hC
  have hl : lv_has ls 4 [(0, .ref (ad 0)), (1, .int x)] := hl
  refine lv_aload_n hx hb dX1_opposite_0 rfl (lv_at hl 0 rfl) ?_
  refine lv_iload_n hx hb dX1_opposite_1 rfl (lv_at hl 1 rfl) ?_
  refine sp_callI (n := 1) (rest := []) hC hW (metX1_isRecurrent l D ad dc nb sk hok _ _ _ _ _ (hk) (x)) q271 q273 qs22 q31 q274 rfl rfl rfl (by decide +kernel) ⟨by decide, by decide⟩ rfl hl rfl (Nat.le_of_ble_eq_true rfl) ⟨Nat.zero_le _, Nat.zero_le _⟩ dX1_opposite_2 (fun r u H locs hp hW => ?_)
  obtain ⟨W3, t3⟩ := u
  have hW : sp_Wd D (sp_wY ad dc (sp_aI nb) (sp_aI sk) (sp_aI (sp_dt kp)) (W3) (sp_bF (sp_rB nb sk)) (nI 1) (t3)) A s.heap H locs := hW
  by_cases hr : sp_isR nb sk x
  · skip
    have hp1 : r = nI 1 := hp.1 hr
    subst hp1
    refine sp_if_ne (a := 1) (tgt := 10) hx hb dX1_opposite_5 (by decide) (by omega) (fun cK => ?_) (fun cK => ?_)
    · skip
      have hr2 := hr
      obtain ⟨y, hy, rfl, hry⟩ := hr
      have hnl := sp_ne_lt hok
      refine lv_aload_n hx hb dX1_opposite_10 rfl (lv_at hl 0 rfl) ?_
      refine sp_callI (n := 0) (rest := []) hC hW (metX1_neutralState l D ad dc nb sk hok _ _ _ _ _ (Or.inr ⟨rfl, fun _ _ => rfl⟩)) q303 q305 qs28 q31 q306 rfl rfl rfl (by decide +kernel) ⟨by decide, by decide⟩ rfl hl rfl (Nat.le_of_ble_eq_true rfl) ⟨Nat.zero_le _, Nat.zero_le _⟩ dX1_opposite_11 (fun r u H locs hp hW => ?_)
      obtain ⟨kn9, F9, W9, t9⟩ := u
      obtain ⟨hp, hkn9⟩ := hp
      have hp : r = nI (sp_ne nb sk) := hp
      subst hp
      have hkn9 : sp_KF nb sk kn9 F9 := hkn9
      have hW : sp_Wd D (sp_wY ad dc (sp_aI nb) (sp_aI sk) (sp_aI (sp_dt kp)) (W9) (F9) (kn9) (t9)) A s.heap H locs := hW
      refine lv_istore_n (lv' := [(2, .int (nI (sp_ne nb sk))), (0, .ref (ad 0)), (1, .int (nI y))]) hx hb dX1_opposite_14 rfl hl (by decide) rfl (fun ls hl => ?_)
      refine lv_iconst (v := nI 0) hx hb dX1_opposite_15 (by decide) ?_
      refine lv_istore_n (lv' := [(3, .int (nI 0)), (2, .int (nI (sp_ne nb sk))), (0, .ref (ad 0)), (1, .int (nI y))]) hx hb dX1_opposite_16 rfl hl (by decide) rfl (fun ls hl => ?_)
      have loop : ∀ (n i : Nat) (kn1 : Int32) (F1 : Nat → Int32) (W2 : Nat → Int32) (t2 : Int32), i + n = 4096 → sp_KF nb sk kn1 F1 → (∀ k, k < i → k ≠ sp_op nb sk y) → ∀ (H : Heap) (locs : List Loc) (ls : Array Slot), sp_Wd D (sp_wY ad dc (sp_aI nb) (sp_aI sk) (sp_aI (sp_dt kp)) (W2) (F1) (kn1) (t2)) A s.heap H locs → lv_has ls 4 [(0, .ref (ad 0)), (1, .int (nI y)), (2, .int (nI (sp_ne nb sk))), (3, .int (nI i))] → W pg l ev ({ frames := 9, cells := 0, slots := 0, locals := 203 } : Room) s mi args below meth cd H locs 0 0 Q (F0 mi 17 ls []) := by
        intro n
        induction n with
        | zero =>
          intro i kn1 F1 W2 t2 hi_i hk1 hno H locs ls hW hl
          refine lv_iload_n hx hb dX1_opposite_17 rfl (lv_at hl 3 rfl) ?_
          refine lv_sipush (v := nI 4096) hx hb dX1_opposite_18 (by decide) ?_
          refine sp_icmp_ge (a := i) (b := 4096) (tgt := 50) hx hb dX1_opposite_21 (by decide) (by omega) (by omega) (fun c => ?_) (fun c => ?_)
          · skip
            exact absurd rfl (hno (sp_op nb sk y) (by have := sp_op_lt hok y; omega))
          · skip
            exfalso; omega
        | succ n ih =>
          intro i kn1 F1 W2 t2 hi_i hk1 hno H locs ls hW hl
          refine lv_iload_n hx hb dX1_opposite_17 rfl (lv_at hl 3 rfl) ?_
          refine lv_sipush (v := nI 4096) hx hb dX1_opposite_18 (by decide) ?_
          refine sp_icmp_ge (a := i) (b := 4096) (tgt := 50) hx hb dX1_opposite_21 (by decide) (by omega) (by omega) (fun c => ?_) (fun c => ?_)
          · skip
            exfalso; omega
          · skip
            refine lv_aload_n hx hb dX1_opposite_24 rfl (lv_at hl 0 rfl) ?_
            refine lv_iload_n hx hb dX1_opposite_25 rfl (lv_at hl 3 rfl) ?_
            refine sp_callI (n := 1) (rest := []) hC hW (metX1_isRecurrent l D ad dc nb sk hok _ _ _ _ _ (hk1) (nI i)) q271 q273 qs22 q31 q274 rfl rfl rfl (by decide +kernel) ⟨by decide, by decide⟩ rfl hl rfl (Nat.le_of_ble_eq_true rfl) ⟨Nat.zero_le _, Nat.zero_le _⟩ dX1_opposite_26 (fun r u H locs hp hW => ?_)
            obtain ⟨W3, t3⟩ := u
            have hW : sp_Wd D (sp_wY ad dc (sp_aI nb) (sp_aI sk) (sp_aI (sp_dt kp)) (W3) (sp_bF (sp_rB nb sk)) (nI 1) (t3)) A s.heap H locs := hW
            by_cases hr : sp_isR nb sk (nI i)
            · skip
              have hp1 : r = nI 1 := hp.1 hr
              subst hp1
              refine sp_if_eq (a := 1) (tgt := 44) hx hb dX1_opposite_29 (by decide) (by omega) (fun cK => ?_) (fun cK => ?_)
              · skip
                exfalso; omega
              · skip
                have hri := (sp_isR_nI (show i < 4096 by omega)).mp hr
                refine lv_aload_n hx hb dX1_opposite_32 rfl (lv_at hl 0 rfl) ?_
                refine lv_iload_n hx hb dX1_opposite_33 rfl (lv_at hl 1 rfl) ?_
                refine lv_iload_n hx hb dX1_opposite_34 rfl (lv_at hl 3 rfl) ?_
                refine sp_callI (n := 2) (rest := []) hC hW (metX1_sum l D ad dc nb sk hok _ _ _ _ _ (y) (i) (by omega) (by omega)) q291 q293 qs27 q31 q294 rfl rfl rfl (by decide +kernel) ⟨by decide, by decide⟩ rfl hl rfl (Nat.le_of_ble_eq_true rfl) ⟨Nat.zero_le _, Nat.zero_le _⟩ dX1_opposite_35 (fun r u H locs hp hW => ?_)
                have hp : r = nI (sp_ad nb sk y i) := hp
                subst hp
                obtain ⟨W4, t4⟩ := u
                have hW : sp_Wd D (sp_wY ad dc (sp_aI nb) (sp_aI sk) (sp_aI (sp_dt kp)) (W4) (sp_bF (sp_rB nb sk)) (nI 1) (t4)) A s.heap H locs := hW
                have hal := sp_ad_lt hok y i
                refine lv_iload_n hx hb dX1_opposite_38 rfl (lv_at hl 2 rfl) ?_
                refine sp_icmp_ne (a := sp_ad nb sk y i) (b := sp_ne nb sk) (tgt := 44) hx hb dX1_opposite_39 (by decide) (by omega) (by omega) (fun ce => ?_) (fun ce => ?_)
                · skip
                  refine lv_iinc (v := nI (i + 1)) (lv' := [(3, .int (nI (i + 1))), (0, .ref (ad 0)), (1, .int (nI y)), (2, .int (nI (sp_ne nb sk)))]) hx hb dX1_opposite_44 hl (k := 3) rfl (nI_1 _) (by decide) rfl (fun ls hl => ?_)
                  refine lv_goto (tgt := 17) hx hb dX1_opposite_47 (by decide) ?_
                  exact ih (i + 1) _ _ _ _ (by omega) (Or.inr ⟨rfl, fun _ _ => rfl⟩) (lt_s hno (fun q => ce ((sp_op_iff hok hry (by omega) hri).mpr q))) _ _ _ hW (lv_sub hl [1, 2, 3, 0] rfl)
                · skip
                  refine lv_iload_n hx hb dX1_opposite_42 rfl (lv_at hl 3 rfl) ?_
                  exact hret _ _ _ _ _ ((W4, sp_bF (sp_rB nb sk), nI 1, t4)) dX1_opposite_43 (rfl) (⟨sp_QV.p hr2 (by rw [nI_clamp (by omega), (sp_op_iff hok hry (by omega) hri).mp ce]), Or.inr ⟨rfl, fun _ _ => rfl⟩⟩) hW
            · skip
              have hp1 : r = nI 0 := hp.2 hr
              subst hp1
              refine sp_if_eq (a := 0) (tgt := 44) hx hb dX1_opposite_29 (by decide) (by omega) (fun cK => ?_) (fun cK => ?_)
              · skip
                refine lv_iinc (v := nI (i + 1)) (lv' := [(3, .int (nI (i + 1))), (0, .ref (ad 0)), (1, .int (nI y)), (2, .int (nI (sp_ne nb sk)))]) hx hb dX1_opposite_44 hl (k := 3) rfl (nI_1 _) (by decide) rfl (fun ls hl => ?_)
                refine lv_goto (tgt := 17) hx hb dX1_opposite_47 (by decide) ?_
                exact ih (i + 1) _ _ _ _ (by omega) (Or.inr ⟨rfl, fun _ _ => rfl⟩) (lt_s hno (fun q => hr ((sp_isR_nI (by omega)).mpr (q ▸ sp_op_Rec hok hry.1)))) _ _ _ hW (lv_sub hl [1, 2, 3, 0] rfl)
              · skip
                exfalso; omega
      exact loop 4096 0 _ _ _ _ (by omega) hkn9 lt_0 _ _ _ hW (lv_sub hl [2, 3, 1, 0] rfl)
    · skip
      exfalso; omega
  · skip
    have hp1 : r = nI 0 := hp.2 hr
    subst hp1
    refine sp_if_ne (a := 0) (tgt := 10) hx hb dX1_opposite_5 (by decide) (by omega) (fun cK => ?_) (fun cK => ?_)
    · skip
      exfalso; omega
    · skip
      refine lv_iconst (v := (-1)) hx hb dX1_opposite_8 (by decide) ?_
      exact hret _ _ _ _ _ ((W3, sp_bF (sp_rB nb sk), nI 1, t3)) dX1_opposite_9 (rfl) (⟨sp_QV.n hr, Or.inr ⟨rfl, fun _ _ => rfl⟩⟩) hW
set_option maxHeartbeats 4000000 in
set_option maxRecDepth 100000 in
/-- groupSum -/
theorem metX1_groupSum (l : Launch) (D : va_G) (ad : Nat → Nat) (dc : Nat → ClassId) (nb sk : Nat → Nat) (hok : sp_Ok nb sk) (kp : Nat) (hkp : sp_KP nb sk kp) (Wk F : Nat → Int32) (known top : Int32) (hk : sp_KF nb sk known F) (x y : Int32) : sp_MI l D (sp_tY dc) yX1_groupSum cX1_groupSum 3 .int ({ frames := 5, cells := 0, slots := 0, locals := 113 } : Room) [.ref (ad 0), .int x, .int y] (sp_wY ad dc (sp_aI nb) (sp_aI sk) (sp_aI (sp_dt kp)) (Wk) (F) (known) (top)) (S := (Nat → Int32) × (Nat → Int32) × Int32 × Int32) (fun r u => sp_QV (sp_isS nb sk x ∧ sp_isS nb sk y) (nI (sp_ad nb sk x.toNatClampNeg y.toNatClampNeg)) r ∧ sp_KF nb sk u.2.2.1 u.2.1) (fun u => sp_wY ad dc (sp_aI nb) (sp_aI sk) (sp_aI (sp_dt kp)) (u.1) (u.2.1) (u.2.2.1) (u.2.2.2)) := by
  refine sp_entI (own := RX1) (by decide) rfl (Nat.le_of_ble_eq_true rfl) ?_
  intro pg ev s mi args below meth cd A Q ls hC hW hret hl
  obtain ⟨hx, hb, -⟩ := id hC
  have hl : lv_has ls 3 [(0, .ref (ad 0)), (1, .int x), (2, .int y)] := hl
  refine lv_aload_n hx hb dX1_groupSum_0 rfl (lv_at hl 0 rfl) ?_
  refine lv_iload_n hx hb dX1_groupSum_1 rfl (lv_at hl 1 rfl) ?_
  refine sp_callI (n := 1) (rest := []) hC hW (metX1_isStable l D ad dc nb sk hok _ _ _ _ _ (x)) q255 q257 qs20 q31 q258 rfl rfl rfl (by decide +kernel) ⟨by decide, by decide⟩ rfl hl rfl (Nat.le_of_ble_eq_true rfl) ⟨Nat.zero_le _, Nat.zero_le _⟩ dX1_groupSum_2 (fun r u H locs hp hW => ?_)
  have hW : sp_Wd D (sp_wY ad dc (sp_aI nb) (sp_aI sk) (sp_aI (sp_dt kp)) (Wk) (F) (known) (top)) A s.heap H locs := hW
  by_cases hsx : sp_isS nb sk x
  · skip
    have hp1 : r = nI 1 := hp.1 hsx
    subst hp1
    refine sp_if_eq (a := 1) (tgt := 25) hx hb dX1_groupSum_5 (by decide) (by omega) (fun cK => ?_) (fun cK => ?_)
    · skip
      exfalso; omega
    · skip
      refine lv_aload_n hx hb dX1_groupSum_8 rfl (lv_at hl 0 rfl) ?_
      refine lv_iload_n hx hb dX1_groupSum_9 rfl (lv_at hl 2 rfl) ?_
      refine sp_callI (n := 1) (rest := []) hC hW (metX1_isStable l D ad dc nb sk hok _ _ _ _ _ (y)) q255 q257 qs20 q31 q258 rfl rfl rfl (by decide +kernel) ⟨by decide, by decide⟩ rfl hl rfl (Nat.le_of_ble_eq_true rfl) ⟨Nat.zero_le _, Nat.zero_le _⟩ dX1_groupSum_10 (fun r u H locs hp hW => ?_)
      have hW : sp_Wd D (sp_wY ad dc (sp_aI nb) (sp_aI sk) (sp_aI (sp_dt kp)) (Wk) (F) (known) (top)) A s.heap H locs := hW
      by_cases hsy : sp_isS nb sk y
      · skip
        have hp1 : r = nI 1 := hp.1 hsy
        subst hp1
        refine sp_if_eq (a := 1) (tgt := 25) hx hb dX1_groupSum_13 (by decide) (by omega) (fun cK => ?_) (fun cK => ?_)
        · skip
          exfalso; omega
        · skip
          have hx2 := hsx
          have hy2 := hsy
          obtain ⟨j, hj, rfl, hsb⟩ := hsx
          obtain ⟨j2, hj2, rfl, hsb2⟩ := hsy
          refine lv_aload_n hx hb dX1_groupSum_16 rfl (lv_at hl 0 rfl) ?_
          refine lv_iload_n hx hb dX1_groupSum_17 rfl (lv_at hl 1 rfl) ?_
          refine lv_iload_n hx hb dX1_groupSum_18 rfl (lv_at hl 2 rfl) ?_
          refine sp_callI (n := 2) (rest := []) hC hW (metX1_sum l D ad dc nb sk hok _ _ _ _ _ (j) (j2) (hj) (hj2)) q291 q293 qs27 q31 q294 rfl rfl rfl (by decide +kernel) ⟨by decide, by decide⟩ rfl hl rfl (Nat.le_of_ble_eq_true rfl) ⟨Nat.zero_le _, Nat.zero_le _⟩ dX1_groupSum_19 (fun r u H locs hp hW => ?_)
          have hp : r = nI (sp_ad nb sk j j2) := hp
          subst hp
          obtain ⟨W4, t4⟩ := u
          have hW : sp_Wd D (sp_wY ad dc (sp_aI nb) (sp_aI sk) (sp_aI (sp_dt kp)) (W4) (F) (known) (t4)) A s.heap H locs := hW
          refine lv_goto (tgt := 26) hx hb dX1_groupSum_22 (by decide) ?_
          exact hret _ _ _ _ _ ((W4, F, known, t4)) dX1_groupSum_26 (rfl) (⟨sp_QV.p ⟨hx2, hy2⟩ (by rw [nI_clamp (by omega), nI_clamp (by omega)]), hk⟩) hW
      · skip
        have hp1 : r = nI 0 := hp.2 hsy
        subst hp1
        refine sp_if_eq (a := 0) (tgt := 25) hx hb dX1_groupSum_13 (by decide) (by omega) (fun cK => ?_) (fun cK => ?_)
        · skip
          refine lv_iconst (v := (-1)) hx hb dX1_groupSum_25 (by decide) ?_
          exact hret _ _ _ _ _ ((Wk, F, known, top)) dX1_groupSum_26 (rfl) (⟨sp_QV.n (fun q => hsy q.2), hk⟩) hW
        · skip
          exfalso; omega
  · skip
    have hp1 : r = nI 0 := hp.2 hsx
    subst hp1
    refine sp_if_eq (a := 0) (tgt := 25) hx hb dX1_groupSum_5 (by decide) (by omega) (fun cK => ?_) (fun cK => ?_)
    · skip
      refine lv_iconst (v := (-1)) hx hb dX1_groupSum_25 (by decide) ?_
      exact hret _ _ _ _ _ ((Wk, F, known, top)) dX1_groupSum_26 (rfl) (⟨sp_QV.n (fun q => hsx q.1), hk⟩) hW
    · skip
      exfalso; omega
set_option maxHeartbeats 4000000 in
set_option maxRecDepth 100000 in
/-- recurrentOf -/
theorem metX1_recurrentOf (l : Launch) (D : va_G) (ad : Nat → Nat) (dc : Nat → ClassId) (nb sk : Nat → Nat) (hok : sp_Ok nb sk) (kp : Nat) (hkp : sp_KP nb sk kp) (Wk F : Nat → Int32) (known top : Int32) (hk : sp_KF nb sk known F) (x : Int32) : sp_MI l D (sp_tY dc) yX1_recurrentOf cX1_recurrentOf 3 .int ({ frames := 9, cells := 0, slots := 0, locals := 203 } : Room) [.ref (ad 0), .int x] (sp_wY ad dc (sp_aI nb) (sp_aI sk) (sp_aI (sp_dt kp)) (Wk) (F) (known) (top)) (S := (Nat → Int32) × (Nat → Int32) × Int32 × Int32) (fun r u => sp_QV (sp_isS nb sk x) (nI (sp_ad nb sk x.toNatClampNeg (sp_ne nb sk))) r ∧ sp_KF nb sk u.2.2.1 u.2.1) (fun u => sp_wY ad dc (sp_aI nb) (sp_aI sk) (sp_aI (sp_dt kp)) (u.1) (u.2.1) (u.2.2.1) (u.2.2.2)) := by
  refine sp_entI (own := RX1) (by decide) rfl (Nat.le_of_ble_eq_true rfl) ?_
  intro pg ev s mi args below meth cd A Q ls hC hW hret hl
  obtain ⟨hx, hb, -⟩ := id hC
  have hl : lv_has ls 3 [(0, .ref (ad 0)), (1, .int x)] := hl
  refine lv_aload_n hx hb dX1_recurrentOf_0 rfl (lv_at hl 0 rfl) ?_
  refine lv_iload_n hx hb dX1_recurrentOf_1 rfl (lv_at hl 1 rfl) ?_
  refine sp_callI (n := 1) (rest := []) hC hW (metX1_isStable l D ad dc nb sk hok _ _ _ _ _ (x)) q255 q257 qs20 q31 q258 rfl rfl rfl (by decide +kernel) ⟨by decide, by decide⟩ rfl hl rfl (Nat.le_of_ble_eq_true rfl) ⟨Nat.zero_le _, Nat.zero_le _⟩ dX1_recurrentOf_2 (fun r u H locs hp hW => ?_)
  have hW : sp_Wd D (sp_wY ad dc (sp_aI nb) (sp_aI sk) (sp_aI (sp_dt kp)) (Wk) (F) (known) (top)) A s.heap H locs := hW
  by_cases hsx : sp_isS nb sk x
  · skip
    have hp1 : r = nI 1 := hp.1 hsx
    subst hp1
    refine sp_if_ne (a := 1) (tgt := 10) hx hb dX1_recurrentOf_5 (by decide) (by omega) (fun cK => ?_) (fun cK => ?_)
    · skip
      have hx2 := hsx
      obtain ⟨j, hj, rfl, hsb⟩ := hsx
      refine lv_aload_n hx hb dX1_recurrentOf_10 rfl (lv_at hl 0 rfl) ?_
      refine sp_callI (n := 0) (rest := []) hC hW (metX1_neutralState l D ad dc nb sk hok _ _ _ _ _ (hk)) q303 q305 qs28 q31 q306 rfl rfl rfl (by decide +kernel) ⟨by decide, by decide⟩ rfl hl rfl (Nat.le_of_ble_eq_true rfl) ⟨Nat.zero_le _, Nat.zero_le _⟩ dX1_recurrentOf_11 (fun r u H locs hp hW => ?_)
      obtain ⟨kn9, F9, W9, t9⟩ := u
      obtain ⟨hp, hkn9⟩ := hp
      have hp : r = nI (sp_ne nb sk) := hp
      subst hp
      have hkn9 : sp_KF nb sk kn9 F9 := hkn9
      have hW : sp_Wd D (sp_wY ad dc (sp_aI nb) (sp_aI sk) (sp_aI (sp_dt kp)) (W9) (F9) (kn9) (t9)) A s.heap H locs := hW
      refine lv_istore_n (lv' := [(2, .int (nI (sp_ne nb sk))), (0, .ref (ad 0)), (1, .int (nI j))]) hx hb dX1_recurrentOf_14 rfl hl (by decide) rfl (fun ls hl => ?_)
      refine lv_aload_n hx hb dX1_recurrentOf_15 rfl (lv_at hl 1 rfl) ?_
      refine lv_iload_n hx hb dX1_recurrentOf_16 rfl (lv_at hl 0 rfl) ?_
      refine lv_iload_n hx hb dX1_recurrentOf_17 rfl (lv_at hl 2 rfl) ?_
      refine sp_callI (n := 2) (rest := []) hC hW (metX1_sum l D ad dc nb sk hok _ _ _ _ _ (sp_ne nb sk) (j) (sp_ne_lt hok) (hj)) q291 q293 qs27 q31 q294 rfl rfl rfl (by decide +kernel) ⟨by decide, by decide⟩ rfl hl rfl (Nat.le_of_ble_eq_true rfl) ⟨Nat.zero_le _, Nat.zero_le _⟩ dX1_recurrentOf_18 (fun r u H locs hp hW => ?_)
      have hp : r = nI (sp_ad nb sk (sp_ne nb sk) j) := hp
      subst hp
      obtain ⟨W4, t4⟩ := u
      have hW : sp_Wd D (sp_wY ad dc (sp_aI nb) (sp_aI sk) (sp_aI (sp_dt kp)) (W4) (F9) (kn9) (t4)) A s.heap H locs := hW
      exact hret _ _ _ _ _ ((W4, F9, kn9, t4)) dX1_recurrentOf_21 (rfl) (⟨sp_QV.p hx2 (by rw [nI_clamp (by omega), sp_ad_comm]), hkn9⟩) hW
    · skip
      exfalso; omega
  · skip
    have hp1 : r = nI 0 := hp.2 hsx
    subst hp1
    refine sp_if_ne (a := 0) (tgt := 10) hx hb dX1_recurrentOf_5 (by decide) (by omega) (fun cK => ?_) (fun cK => ?_)
    · skip
      exfalso; omega
    · skip
      refine lv_iconst (v := (-1)) hx hb dX1_recurrentOf_8 (by decide) ?_
      exact hret _ _ _ _ _ ((Wk, F, known, top)) dX1_recurrentOf_9 (rfl) (⟨sp_QV.n hsx, hk⟩) hW
set_option maxHeartbeats 4000000 in
set_option maxRecDepth 100000 in
/-- orderOf -/
theorem metX1_orderOf (l : Launch) (D : va_G) (ad : Nat → Nat) (dc : Nat → ClassId) (nb sk : Nat → Nat) (hok : sp_Ok nb sk) (kp : Nat) (hkp : sp_KP nb sk kp) (Wk F : Nat → Int32) (known top : Int32) (hk : sp_KF nb sk known F) (x : Int32) : sp_MI l D (sp_tY dc) yX1_orderOf cX1_orderOf 5 .int ({ frames := 9, cells := 0, slots := 0, locals := 203 } : Room) [.ref (ad 0), .int x] (sp_wY ad dc (sp_aI nb) (sp_aI sk) (sp_aI (sp_dt kp)) (Wk) (F) (known) (top)) (S := (Nat → Int32) × (Nat → Int32) × Int32 × Int32) (fun r u => sp_QV (sp_isR nb sk x) (nI (sp_or nb sk x.toNatClampNeg)) r ∧ sp_KF nb sk u.2.2.1 u.2.1) (fun u => sp_wY ad dc (sp_aI nb) (sp_aI sk) (sp_aI (sp_dt kp)) (u.1) (u.2.1) (u.2.2.1) (u.2.2.2)) := by
  refine sp_entI (own := RX1) (by decide) rfl (Nat.le_of_ble_eq_true rfl) ?_
  intro pg ev s mi args below meth cd A Q ls hC hW hret hl
  obtain ⟨hx, hb, -⟩ := id hC
  have hl : lv_has ls 5 [(0, .ref (ad 0)), (1, .int x)] := hl
  refine lv_aload_n hx hb dX1_orderOf_0 rfl (lv_at hl 0 rfl) ?_
  refine lv_iload_n hx hb dX1_orderOf_1 rfl (lv_at hl 1 rfl) ?_
  refine sp_callI (n := 1) (rest := []) hC hW (metX1_isRecurrent l D ad dc nb sk hok _ _ _ _ _ (hk) (x)) q271 q273 qs22 q31 q274 rfl rfl rfl (by decide +kernel) ⟨by decide, by decide⟩ rfl hl rfl (Nat.le_of_ble_eq_true rfl) ⟨Nat.zero_le _, Nat.zero_le _⟩ dX1_orderOf_2 (fun r u H locs hp hW => ?_)
  obtain ⟨W3, t3⟩ := u
  have hW : sp_Wd D (sp_wY ad dc (sp_aI nb) (sp_aI sk) (sp_aI (sp_dt kp)) (W3) (sp_bF (sp_rB nb sk)) (nI 1) (t3)) A s.heap H locs := hW
  by_cases hr : sp_isR nb sk x
  · skip
    have hp1 : r = nI 1 := hp.1 hr
    subst hp1
    refine sp_if_ne (a := 1) (tgt := 10) hx hb dX1_orderOf_5 (by decide) (by omega) (fun cK => ?_) (fun cK => ?_)
    · skip
      have hr2 := hr
      obtain ⟨y, hy, rfl, hry⟩ := hr
      have hnl := sp_ne_lt hok
      have hcn := sp_cn625 hok
      have hcn1 := (sp_det hok).2.2.2.2
      refine lv_aload_n hx hb dX1_orderOf_10 rfl (lv_at hl 0 rfl) ?_
      refine sp_callI (n := 0) (rest := []) hC hW (metX1_neutralState l D ad dc nb sk hok _ _ _ _ _ (Or.inr ⟨rfl, fun _ _ => rfl⟩)) q303 q305 qs28 q31 q306 rfl rfl rfl (by decide +kernel) ⟨by decide, by decide⟩ rfl hl rfl (Nat.le_of_ble_eq_true rfl) ⟨Nat.zero_le _, Nat.zero_le _⟩ dX1_orderOf_11 (fun r u H locs hp hW => ?_)
      obtain ⟨kn9, F9, W9, t9⟩ := u
      obtain ⟨hp, hkn9⟩ := hp
      have hp : r = nI (sp_ne nb sk) := hp
      subst hp
      have hkn9 : sp_KF nb sk kn9 F9 := hkn9
      have hW : sp_Wd D (sp_wY ad dc (sp_aI nb) (sp_aI sk) (sp_aI (sp_dt kp)) (W9) (F9) (kn9) (t9)) A s.heap H locs := hW
      refine lv_istore_n (lv' := [(2, .int (nI (sp_ne nb sk))), (0, .ref (ad 0)), (1, .int (nI y))]) hx hb dX1_orderOf_14 rfl hl (by decide) rfl (fun ls hl => ?_)
      refine lv_iload_n hx hb dX1_orderOf_15 rfl (lv_at hl 2 rfl) ?_
      refine lv_istore_n (lv' := [(3, .int (nI y)), (2, .int (nI (sp_ne nb sk))), (0, .ref (ad 0)), (1, .int (nI y))]) hx hb dX1_orderOf_16 rfl hl (by decide) rfl (fun ls hl => ?_)
      refine lv_iconst (v := nI 1) hx hb dX1_orderOf_17 (by decide) ?_
      refine lv_istore (lv' := [(4, .int (nI 1)), (3, .int (nI y)), (2, .int (nI (sp_ne nb sk))), (0, .ref (ad 0)), (1, .int (nI y))]) hx hb dX1_orderOf_18 hl (by decide) rfl (fun ls hl => ?_)
      have loop : ∀ (n i : Nat) (W2 : Nat → Int32) (t2 : Int32), i + n = 625 → (∀ j, 1 ≤ j → j < i + 1 → ¬ sp_LaK nb sk y j) → ∀ (H : Heap) (locs : List Loc) (ls : Array Slot), sp_Wd D (sp_wY ad dc (sp_aI nb) (sp_aI sk) (sp_aI (sp_dt kp)) (W2) (F9) (kn9) (t2)) A s.heap H locs → lv_has ls 5 [(0, .ref (ad 0)), (1, .int (nI y)), (2, .int (nI (sp_ne nb sk))), (3, .int (nI (sp_it nb sk y i))), (4, .int (nI (i + 1)))] → W pg l ev ({ frames := 9, cells := 0, slots := 0, locals := 203 } : Room) s mi args below meth cd H locs 0 0 Q (F0 mi 20 ls []) := by
        intro n
        induction n with
        | zero =>
          intro i W2 t2 hi_i hno H locs ls hW hl
          refine lv_iload hx hb dX1_orderOf_20 (lv_at hl 4 rfl) ?_
          refine lv_sipush (v := nI 625) hx hb dX1_orderOf_22 (by decide) ?_
          refine sp_icmp_gt (a := i + 1) (b := 625) (tgt := 49) hx hb dX1_orderOf_25 (by decide) (by omega) (by omega) (fun c => ?_) (fun c => ?_)
          · skip
            exact absurd (sp_LaK_cn hok y) (hno (sp_cn nb sk) hcn1 (by omega))
          · skip
            exfalso; omega
        | succ n ih =>
          intro i W2 t2 hi_i hno H locs ls hW hl
          refine lv_iload hx hb dX1_orderOf_20 (lv_at hl 4 rfl) ?_
          refine lv_sipush (v := nI 625) hx hb dX1_orderOf_22 (by decide) ?_
          refine sp_icmp_gt (a := i + 1) (b := 625) (tgt := 49) hx hb dX1_orderOf_25 (by decide) (by omega) (by omega) (fun c => ?_) (fun c => ?_)
          · skip
            exfalso; omega
          · skip
            obtain ⟨hil, hir, -⟩ := sp_it_ok hok hy hry i
            refine lv_iload_n hx hb dX1_orderOf_28 rfl (lv_at hl 3 rfl) ?_
            refine lv_iload_n hx hb dX1_orderOf_29 rfl (lv_at hl 2 rfl) ?_
            refine sp_icmp_ne (a := sp_it nb sk y i) (b := sp_ne nb sk) (tgt := 36) hx hb dX1_orderOf_30 (by decide) (by omega) (by omega) (fun ce => ?_) (fun ce => ?_)
            · skip
              refine lv_aload_n hx hb dX1_orderOf_36 rfl (lv_at hl 0 rfl) ?_
              refine lv_iload_n hx hb dX1_orderOf_37 rfl (lv_at hl 3 rfl) ?_
              refine lv_iload_n hx hb dX1_orderOf_38 rfl (lv_at hl 1 rfl) ?_
              refine sp_callI (n := 2) (rest := []) hC hW (metX1_sum l D ad dc nb sk hok _ _ _ _ _ (sp_it nb sk y i) (y) (hil) (hy)) q291 q293 qs27 q31 q294 rfl rfl rfl (by decide +kernel) ⟨by decide, by decide⟩ rfl hl rfl (Nat.le_of_ble_eq_true rfl) ⟨Nat.zero_le _, Nat.zero_le _⟩ dX1_orderOf_39 (fun r u H locs hp hW => ?_)
              have hp : r = nI (sp_ad nb sk (sp_it nb sk y i) y) := hp
              subst hp
              obtain ⟨W4, t4⟩ := u
              have hW : sp_Wd D (sp_wY ad dc (sp_aI nb) (sp_aI sk) (sp_aI (sp_dt kp)) (W4) (F9) (kn9) (t4)) A s.heap H locs := hW
              refine lv_istore_n (lv' := [(3, .int (nI (sp_ad nb sk (sp_it nb sk y i) y))), (0, .ref (ad 0)), (1, .int (nI y)), (2, .int (nI (sp_ne nb sk))), (4, .int (nI (i + 1)))]) hx hb dX1_orderOf_42 rfl hl (by decide) rfl (fun ls hl => ?_)
              refine lv_iinc (v := nI (i + 1 + 1)) (lv' := [(4, .int (nI (i + 1 + 1))), (3, .int (nI (sp_ad nb sk (sp_it nb sk y i) y))), (0, .ref (ad 0)), (1, .int (nI y)), (2, .int (nI (sp_ne nb sk)))]) hx hb dX1_orderOf_43 hl (k := 4) rfl (nI_1 _) (by decide) rfl (fun ls hl => ?_)
              refine lv_goto (tgt := 20) hx hb dX1_orderOf_46 (by decide) ?_
              exact ih (i + 1) _ _ (by omega) (fun j h1 h2 => by
                rcases Nat.lt_or_ge j (i + 1) with q | q
                · exact hno j h1 q
                · have e : j = i + 1 := by omega
                  subst e
                  exact fun q => ce ((sp_it_iff hok hy hry i).mpr q)) _ _ _ hW (lv_sub hl [2, 3, 4, 1, 0] rfl)
            · skip
              refine lv_iload hx hb dX1_orderOf_33 (lv_at hl 4 rfl) ?_
              exact hret _ _ _ _ _ ((W2, F9, kn9, t2)) dX1_orderOf_35 (rfl) (⟨sp_QV.p hr2 (by rw [nI_clamp (by omega), sp_or_eq ⟨by omega, (sp_it_iff hok hy hry i).mp ce, fun j h1 h2 => hno j h1 h2⟩]), hkn9⟩) hW
      exact loop 625 0 _ _ (by omega) (fun j h1 h2 => by omega) _ _ _ hW (lv_sub hl [3, 4, 2, 1, 0] rfl)
    · skip
      exfalso; omega
  · skip
    have hp1 : r = nI 0 := hp.2 hr
    subst hp1
    refine sp_if_ne (a := 0) (tgt := 10) hx hb dX1_orderOf_5 (by decide) (by omega) (fun cK => ?_) (fun cK => ?_)
    · skip
      exfalso; omega
    · skip
      refine lv_iconst (v := (-1)) hx hb dX1_orderOf_8 (by decide) ?_
      exact hret _ _ _ _ _ ((W3, sp_bF (sp_rB nb sk), nI 1, t3)) dX1_orderOf_9 (rfl) (⟨sp_QV.n hr, Or.inr ⟨rfl, fun _ _ => rfl⟩⟩) hW
end
section
set_option maxRecDepth 100000
/-! constructors: a contract that makes cells -/
def sp_a6 {α : Type} (a0 a1 a2 a3 a4 a5 : α) : Nat → α := fun k => match k with
  | 0 => a0
  | 1 => a1
  | 2 => a2
  | 3 => a3
  | 4 => a4
  | _ => a5
def sp_MC (l : Launch) (D : va_G) (y : MethodName) (cy : ByteArray) (nL : Nat) (rm : Room) (h : Nat) (ci : Nat) (fs : List Value) (mc ms : Nat) {S : Type} (tys' : S → List (ClassId × FieldType)) (w' : S → va_W) : Prop :=
  ∀ sz, Met l y (ws_ y cy nL none) rm (va_Pc [.ref h] (fun U => U.heap.size = sz ∧ va_P D vwCl [(h, .inr (ci, fs))] U.heap ∧ va_K D vwCl [] U ∧ va_D (fun _ => True) [(h, .inr (ci, fs))])) (va_Qv (fun _ : S => True) (fun u t => va_P D vwCl (w' u) t.heap ∧ va_K D vwCl (tys' u) t ∧ va_D (va_A [(h, .inr (ci, fs))] sz) (w' u)) (va_A [(h, .inr (ci, fs))] sz)) mc ms (va_A [(h, .inr (ci, fs))] sz)
theorem sp_entC {l : Launch} {D : va_G} {y : MethodName} {cy : ByteArray} {nL : Nat} {rm : Room} {h ci : Nat} {fs : List Value} {mc ms : Nat} {S : Type} {tys' : S → List (ClassId × FieldType)} {w' : S → va_W} {own : String}
    (hpl : plainName y.cls = true) (hown : y.cls = own) (hnm : y.name = "<init>") (hlen : (lg_sl [Value.ref h]).length ≤ nL)
    (body : ∀ (p : Program) (e : Env) (s : State) (m : MethodId) (args : Array Value) (below : List Frame) (meth : Method) (c : Code) (A : Nat → Prop) (Q : State → Prop) (ls : Array Slot),
      sp_C p s m c args cy nL own D [] → meth.name = "<init>" → sp_Wd D [(h, .inr (ci, fs))] A s.heap s.heap [] →
      (∀ (pc : Nat) (H : Heap) (locs : List Loc) (ls : Array Slot) (u : S), decode cy pc = .ok (.return_, 1) → va_K D vwCl (tys' u) s → sp_Wd D (w' u) A s.heap H locs → W p l e rm s m args below meth c H locs mc ms Q (F0 m pc ls [])) →
      lv_has ls nL [(0, .ref h)] → W p l e rm s m args below meth c s.heap [] 0 0 Q (F0 m 0 ls [])) : sp_MC l D y cy nL rm h ci fs mc ms tys' w' := by
  intro sz
  refine Met.ofW (cc := cy) (maxL := nL) (ret := none) hpl rfl ?_
  intro p e s m args below meth c s₁ B hml hv
  obtain ⟨rfl, hsz, hP, hK, hD0⟩ := hv
  have hts := atoms_spec (ws := ws_ y cy nL none) B.pre
  have hts : ∀ w ∈ lw_all, w.before _ s = true := fun w h => hts w (List.mem_cons_of_mem _ h)
  have hin : meth.name = "<init>" := hnm ▸ (name_of_methodNamed B.named B.method).1
  subst hsz
  have hl := lv_entry [Value.ref h] (n := nL) hlen
  rw [lg_entry_eq]
  refine body p e s m _ below meth c (va_A [(h, .inr (ci, fs))] s.heap.size) _ _ ⟨B.exec, B.bytes, hml, (by rw [← hown]; exact findClass_of_methodNamed B.named), hts, hK⟩ hin ⟨hP, hD0.self, va_S.rf, fun q h => Or.inr h⟩ ?_ hl
  intro pc H locs ls u hd hK2 hW
  exact W.vret B.exec B.bytes B.returns (fun t ht hWm => ⟨⟨u, rfl, trivial, by rw [ht]; exact hW.1, va_K.moved hWm.alike hK2, hW.2.1⟩, hW.2.2.1.F ht⟩) hW.2.2.1.2.2 hd B.notSynchronized
section SPN
variable {p : Program} {l : Launch} {e : Env} {R : Room} {s : State} {m : MethodId} {args : Array Value} {below : List Frame} {meth : Method} {c : Code} {H : Heap} {locs : List Loc} {cells slots : Nat} {Q : State → Prop}
variable {cc : ByteArray} {pc nL : Nat} {own : String} {ls : Array Slot} {rest : List Value} {D : va_G} {A : Nat → Prop} {a : Nat} {tys : List (ClassId × FieldType)} {w : va_W}
theorem sp_newa (hC : sp_C p s m c args cc nL own D tys) (hW : sp_Wd D w A s.heap H locs) {atype : ArrayType} (harr : Cond.arrayClass (newarray.typeOf atype) ∈ lw_all) {ty : FieldType} (hty : newarray.typeOf atype = ty) {N : Nat}
    (ha : ∀ cA : ClassId, vp_cell cA (N, .inl (fun _ => nI 0)) = arrV cA N (fun _ => defaultValue ty)) (hN : N < 2 ^ 20) (hbytes : N * componentBytes ty ≤ 536870912) (hcells : cells + 1 ≤ R.cells) (hslots : slots + N ≤ R.slots) (hdg : decode cc pc = .ok (.newarray atype, 2))
    (kk : ∀ (q : Nat) (cA : ClassId) (H1 : Heap), sp_C p s m c args cc nL own D (tys ++ [(cA, ty)]) → sp_Wd D (w ++ [(q, .inl (cA, N, .inl (fun _ => nI 0)))]) A s.heap H1 locs →
      W p l e R s m args below meth c H1 locs (cells + 1) (slots + N) Q (F0 m (pc + 2) ls (.ref q :: rest))) : W p l e R s m args below meth c H locs cells slots Q (F0 m pc ls (.int (nI N) :: rest)) :=
  va_newa hC.1 hC.2.1 (hC.2.2.2.2.1 _ harr) hty hC.2.2.2.2.2 hW.1 hW.2.1 hW.2.2.1 hW.2.2.2 ha (nI_pos (by omega)) (nI_clamp (by omega)) hbytes hcells hslots hdg
    (fun q cA H1 hK hP hD hS => kk q cA H1 ⟨hC.1, hC.2.1, hC.2.2.1, hC.2.2.2.1, hC.2.2.2.2.1, hK⟩ ⟨hP, hD, hS, hW.2.2.2⟩)
theorem sp_putF0 (hC : sp_C p s m c args cc nL RX0 D tys) (hin : meth.name = "<init>") {fs : List Value} (hW : sp_Wd D ((a, .inr (0, fs)) :: w) A s.heap H locs) (k : Nat) (hk : k < 10) {index : Nat} (hl : Cond.fieldLink RX0 index RX0 (TX0 k).2.1 (TX0 k).2.2.1 ∈ lw_all) (he : (TX0 k).1 = RX0) (hfin : (TX0 k).2.2.2 = true) {ty : FieldType} {v : Value} (hd : parseFieldDescriptor (TX0 k).2.2.1 = some ty) (hn : narrow ty v = v) (hfit : fits ty v = true) (hlen : k < fs.length) (hdg : decode cc pc = .ok (.putfield index, 3))
    (kk : ∀ (H1 : Heap) (locs1 : List Loc), sp_Wd D ((a, .inr (0, fs.set k v)) :: w) A s.heap H1 locs1 → W p l e R s m args below meth c H1 locs1 cells slots Q (F0 m (pc + 3) ls rest)) : W p l e R s m args below meth c H locs cells slots Q (F0 m pc ls (v :: .ref a :: rest)) :=
  va_putF (D := D) (ci := 0) (C := RX0) (T := TX0) (N := 10) (ref := RX0) hC.1 hC.2.1 hC.2.2.2.2.1 in_X0 tyX0 tyX0_ok nmX0 hC.2.2.2.1 hC.2.2.2.2.2 hW.1 hW.2.1 hW.2.2.1 0 rfl rfl k hk (hC.2.2.2.2.1 _ hl) (fun _ h9 => by rw [he] at h9; exact h9) hfin hin he hd hn hfit hlen hdg (fun H1 locs1 hP hD hS => kk H1 locs1 ⟨hP, hD, hS, hW.2.2.2⟩)
end SPN
end
section
set_option maxRecDepth 100000
set_option maxHeartbeats 4000000 in
set_option maxRecDepth 100000 in
/-- the constructor -/
theorem metX0_init (l : Launch) (D : va_G) (h : Nat) : sp_MC l D yX0_init cX0_init 2 ({ frames := 1, cells := 5, slots := 32, locals := 12 } : Room) h 0 [.null, .null, .null, .null, .int (nI 0), .int (nI 0), .int (nI 0), .int (nI 0), .int (nI 0), .null] 5 32 (S := (Nat → Nat) × (Nat → ClassId)) (fun u => sp_tX u.2) (fun u => sp_wX (sp_a6 h (u.1 1) (u.1 2) (u.1 3) (u.1 4) (u.1 5)) u.2 (sp_aI (fun _ => 0)) (sp_aI (fun _ => 1)) (sp_aI (sp_dg (sp_E (fun _ => 0)) (fun _ => 1))) (fun _ => nI 0) (fun _ => nI 0) (nI 0) (nI 0) (nI 0) (nI 0) (nI 0)) := by
  refine sp_entC (own := RX0) (by decide) rfl rfl (Nat.le_of_ble_eq_true rfl) ?_
  intro pg ev s mi args below meth cd A Q ls hC hin hW hret hl
  obtain ⟨hx, hb, hml, hown, hts, -⟩ := id hC
  refine lv_aload_n hx hb dX0_init_0 rfl (lv_at hl 0 rfl) ?_
  refine W.objInit hx hb hown (hts _ q37) (hts _ q38) (hts _ q39) rfl (by rw [hml]; exact hl.1) rfl dX0_init_1 (Nat.le_of_ble_eq_true rfl) (Nat.le_of_ble_eq_true rfl) ?_
  refine W.eq (g2 := F0 mi 4 ls []) rfl ?_
  refine lv_aload_n hx hb dX0_init_4 rfl (lv_at hl 0 rfl) ?_
  refine lv_iconst (v := nI 4) hx hb dX0_init_5 (by decide) ?_
  refine sp_newa (atype := .byte) hC hW q71 rfl (fun _ => rfl) (by decide) (by decide) (Nat.le_of_ble_eq_true rfl) (Nat.le_of_ble_eq_true rfl) dX0_init_6 (fun a1 c1 H hC hW => ?_)
  have hW : sp_Wd D [(h, .inr (0, [.null, .null, .null, .null, .int (nI 0), .int (nI 0), .int (nI 0), .int (nI 0), .int (nI 0), .null])), (a1, .inl (c1, 4, .inl (fun _ => nI 0)))] A s.heap H _ := hW
  refine sp_putF0 hC hin hW 0 (by decide) q40 rfl rfl (ty := .array .byte) (v := .ref a1) (by decide +kernel) rfl rfl (Nat.le_of_ble_eq_true rfl) dX0_init_8 (fun H locs hW => ?_)
  have hW : sp_Wd D [(h, .inr (0, [.ref a1, .null, .null, .null, .int (nI 0), .int (nI 0), .int (nI 0), .int (nI 0), .int (nI 0), .null])), (a1, .inl (c1, 4, .inl (fun _ => nI 0)))] A s.heap H locs := hW
  refine lv_aload_n hx hb dX0_init_11 rfl (lv_at hl 0 rfl) ?_
  refine lv_iconst (v := nI 4) hx hb dX0_init_12 (by decide) ?_
  refine sp_newa (atype := .byte) hC hW q71 rfl (fun _ => rfl) (by decide) (by decide) (Nat.le_of_ble_eq_true rfl) (Nat.le_of_ble_eq_true rfl) dX0_init_13 (fun a2 c2 H hC hW => ?_)
  have hW : sp_Wd D [(h, .inr (0, [.ref a1, .null, .null, .null, .int (nI 0), .int (nI 0), .int (nI 0), .int (nI 0), .int (nI 0), .null])), (a1, .inl (c1, 4, .inl (fun _ => nI 0))), (a2, .inl (c2, 4, .inl (fun _ => nI 0)))] A s.heap H _ := hW
  refine sp_putF0 hC hin hW 1 (by decide) q41 rfl rfl (ty := .array .byte) (v := .ref a2) (by decide +kernel) rfl rfl (Nat.le_of_ble_eq_true rfl) dX0_init_15 (fun H locs hW => ?_)
  have hW : sp_Wd D [(h, .inr (0, [.ref a1, .ref a2, .null, .null, .int (nI 0), .int (nI 0), .int (nI 0), .int (nI 0), .int (nI 0), .null])), (a1, .inl (c1, 4, .inl (fun _ => nI 0))), (a2, .inl (c2, 4, .inl (fun _ => nI 0)))] A s.heap H locs := hW
  refine lv_aload_n hx hb dX0_init_18 rfl (lv_at hl 0 rfl) ?_
  refine lv_iconst (v := nI 4) hx hb dX0_init_19 (by decide) ?_
  refine sp_newa (atype := .byte) hC hW q71 rfl (fun _ => rfl) (by decide) (by decide) (Nat.le_of_ble_eq_true rfl) (Nat.le_of_ble_eq_true rfl) dX0_init_20 (fun a3 c3 H hC hW => ?_)
  have hW : sp_Wd D [(h, .inr (0, [.ref a1, .ref a2, .null, .null, .int (nI 0), .int (nI 0), .int (nI 0), .int (nI 0), .int (nI 0), .null])), (a1, .inl (c1, 4, .inl (fun _ => nI 0))), (a2, .inl (c2, 4, .inl (fun _ => nI 0))), (a3, .inl (c3, 4, .inl (fun _ => nI 0)))] A s.heap H _ := hW
  refine sp_putF0 hC hin hW 2 (by decide) q42 rfl rfl (ty := .array .byte) (v := .ref a3) (by decide +kernel) rfl rfl (Nat.le_of_ble_eq_true rfl) dX0_init_22 (fun H locs hW => ?_)
  have hW : sp_Wd D [(h, .inr (0, [.ref a1, .ref a2, .ref a3, .null, .int (nI 0), .int (nI 0), .int (nI 0), .int (nI 0), .int (nI 0), .null])), (a1, .inl (c1, 4, .inl (fun _ => nI 0))), (a2, .inl (c2, 4, .inl (fun _ => nI 0))), (a3, .inl (c3, 4, .inl (fun _ => nI 0)))] A s.heap H locs := hW
  refine lv_aload_n hx hb dX0_init_25 rfl (lv_at hl 0 rfl) ?_
  refine lv_iconst (v := nI 4) hx hb dX0_init_26 (by decide) ?_
  refine sp_newa (atype := .int) hC hW q72 rfl (fun _ => rfl) (by decide) (by decide) (Nat.le_of_ble_eq_true rfl) (Nat.le_of_ble_eq_true rfl) dX0_init_27 (fun a4 c4 H hC hW => ?_)
  have hW : sp_Wd D [(h, .inr (0, [.ref a1, .ref a2, .ref a3, .null, .int (nI 0), .int (nI 0), .int (nI 0), .int (nI 0), .int (nI 0), .null])), (a1, .inl (c1, 4, .inl (fun _ => nI 0))), (a2, .inl (c2, 4, .inl (fun _ => nI 0))), (a3, .inl (c3, 4, .inl (fun _ => nI 0))), (a4, .inl (c4, 4, .inl (fun _ => nI 0)))] A s.heap H _ := hW
  refine sp_putF0 hC hin hW 3 (by decide) q43 rfl rfl (ty := .array .int) (v := .ref a4) (by decide +kernel) rfl rfl (Nat.le_of_ble_eq_true rfl) dX0_init_29 (fun H locs hW => ?_)
  have hW : sp_Wd D [(h, .inr (0, [.ref a1, .ref a2, .ref a3, .ref a4, .int (nI 0), .int (nI 0), .int (nI 0), .int (nI 0), .int (nI 0), .null])), (a1, .inl (c1, 4, .inl (fun _ => nI 0))), (a2, .inl (c2, 4, .inl (fun _ => nI 0))), (a3, .inl (c3, 4, .inl (fun _ => nI 0))), (a4, .inl (c4, 4, .inl (fun _ => nI 0)))] A s.heap H locs := hW
  refine lv_aload_n hx hb dX0_init_32 rfl (lv_at hl 0 rfl) ?_
  refine lv_bipush (v := nI 16) hx hb dX0_init_33 (by decide) ?_
  refine sp_newa (atype := .int) hC hW q72 rfl (fun _ => rfl) (by decide) (by decide) (Nat.le_of_ble_eq_true rfl) (Nat.le_of_ble_eq_true rfl) dX0_init_35 (fun a5 c5 H hC hW => ?_)
  have hW : sp_Wd D [(h, .inr (0, [.ref a1, .ref a2, .ref a3, .ref a4, .int (nI 0), .int (nI 0), .int (nI 0), .int (nI 0), .int (nI 0), .null])), (a1, .inl (c1, 4, .inl (fun _ => nI 0))), (a2, .inl (c2, 4, .inl (fun _ => nI 0))), (a3, .inl (c3, 4, .inl (fun _ => nI 0))), (a4, .inl (c4, 4, .inl (fun _ => nI 0))), (a5, .inl (c5, 16, .inl (fun _ => nI 0)))] A s.heap H _ := hW
  refine sp_putF0 hC hin hW 9 (by decide) q49 rfl rfl (ty := .array .int) (v := .ref a5) (by decide +kernel) rfl rfl (Nat.le_of_ble_eq_true rfl) dX0_init_37 (fun H locs hW => ?_)
  have hW : sp_Wd D [(h, .inr (0, [.ref a1, .ref a2, .ref a3, .ref a4, .int (nI 0), .int (nI 0), .int (nI 0), .int (nI 0), .int (nI 0), .ref a5])), (a1, .inl (c1, 4, .inl (fun _ => nI 0))), (a2, .inl (c2, 4, .inl (fun _ => nI 0))), (a3, .inl (c3, 4, .inl (fun _ => nI 0))), (a4, .inl (c4, 4, .inl (fun _ => nI 0))), (a5, .inl (c5, 16, .inl (fun _ => nI 0)))] A s.heap H locs := hW
  have hC : sp_C pg s mi cd args cX0_init 2 RX0 D (sp_tX (sp_a6 c1 c1 c2 c3 c4 c5)) := hC
  have hW : sp_Wd D (sp_wX (sp_a6 h a1 a2 a3 a4 a5) (sp_a6 c1 c1 c2 c3 c4 c5) (fun _ => nI 0) (fun _ => nI 0) (fun _ => nI 0) (fun _ => nI 0) (fun _ => nI 0) (nI 0) (nI 0) (nI 0) (nI 0) (nI 0)) A s.heap H locs := hW
  refine lv_iconst (v := nI 0) hx hb dX0_init_40 (by decide) ?_
  refine lv_istore_n (lv' := [(1, .int (nI 0)), (0, .ref (h))]) hx hb dX0_init_41 rfl hl (by decide) rfl (fun ls hl => ?_)
  have loop : ∀ (n i : Nat) (g1 : Nat → Int32) (g2 : Nat → Int32), i + n = 4 → (∀ k, k < i → g1 k = nI 1) → (∀ k, k < i → g2 k = nI 1) → ∀ (H : Heap) (locs : List Loc) (ls : Array Slot), sp_Wd D (sp_wX (sp_a6 h a1 a2 a3 a4 a5) (sp_a6 c1 c1 c2 c3 c4 c5) (fun _ => nI 0) (g1) (g2) (fun _ => nI 0) (fun _ => nI 0) (nI 0) (nI 0) (nI 0) (nI 0) (nI 0)) A s.heap H locs → lv_has ls 2 [(0, .ref (h)), (1, .int (nI i))] → W pg l ev ({ frames := 1, cells := 5, slots := 32, locals := 12 } : Room) s mi args below meth cd H locs 5 32 Q (F0 mi 42 ls []) := by
    intro n
    induction n with
    | zero =>
      intro i g1 g2 hi_i hg hg2 H locs ls hW hl
      refine lv_iload_n hx hb dX0_init_42 rfl (lv_at hl 1 rfl) ?_
      refine lv_iconst (v := nI 4) hx hb dX0_init_43 (by decide) ?_
      refine sp_icmp_ge (a := i) (b := 4) (tgt := 67) hx hb dX0_init_44 (by decide) (by omega) (by omega) (fun c => ?_) (fun c => ?_)
      · skip
        have hW := hW.arr 2 rfl (sp_aI (fun _ => 1)) (fun j hj => hg j (by omega))
        have hW := hW.arr 3 rfl (sp_aI (sp_dg (sp_E (fun _ => 0)) (fun _ => 1))) (fun j hj => (hg2 j (by omega)).trans (by rcases sp_lt4 hj with rfl | rfl | rfl | rfl <;> rfl))
        exact hret _ _ _ _ (sp_a6 h a1 a2 a3 a4 a5, sp_a6 c1 c1 c2 c3 c4 c5) dX0_init_67 hC.2.2.2.2.2 hW
      · skip
        exfalso; omega
    | succ n ih =>
      intro i g1 g2 hi_i hg hg2 H locs ls hW hl
      refine lv_iload_n hx hb dX0_init_42 rfl (lv_at hl 1 rfl) ?_
      refine lv_iconst (v := nI 4) hx hb dX0_init_43 (by decide) ?_
      refine sp_icmp_ge (a := i) (b := 4) (tgt := 67) hx hb dX0_init_44 (by decide) (by omega) (by omega) (fun c => ?_) (fun c => ?_)
      · skip
        exfalso; omega
      · skip
        refine lv_aload_n hx hb dX0_init_47 rfl (lv_at hl 0 rfl) ?_
        refine sp_get0 hC hW 1 (by decide) q41 rfl (v := .ref ((sp_a6 h a1 a2 a3 a4 a5) 2)) rfl dX0_init_48 ?_
        refine lv_iload_n hx hb dX0_init_51 rfl (lv_at hl 1 rfl) ?_
        refine lv_iconst (v := nI 1) hx hb dX0_init_52 (by decide) ?_
        refine sp_bast hC hW 2 1 rfl rfl (k := i) (x := nI 1) (by omega) (by decide) (by decide) (fun q => if q = i then nI 1 else g1 q) (fun _ _ => rfl) dX0_init_53 (fun H locs hW => ?_)
        have hW : sp_Wd D (sp_wX (sp_a6 h a1 a2 a3 a4 a5) (sp_a6 c1 c1 c2 c3 c4 c5) (fun _ => nI 0) (fun q => if q = i then nI 1 else g1 q) (g2) (fun _ => nI 0) (fun _ => nI 0) (nI 0) (nI 0) (nI 0) (nI 0) (nI 0)) A s.heap H locs := hW
        refine lv_aload_n hx hb dX0_init_54 rfl (lv_at hl 0 rfl) ?_
        refine sp_get0 hC hW 2 (by decide) q42 rfl (v := .ref ((sp_a6 h a1 a2 a3 a4 a5) 3)) rfl dX0_init_55 ?_
        refine lv_iload_n hx hb dX0_init_58 rfl (lv_at hl 1 rfl) ?_
        refine lv_iconst (v := nI 1) hx hb dX0_init_59 (by decide) ?_
        refine sp_bast hC hW 3 2 rfl rfl (k := i) (x := nI 1) (by omega) (by decide) (by decide) (fun q => if q = i then nI 1 else g2 q) (fun _ _ => rfl) dX0_init_60 (fun H locs hW => ?_)
        have hW : sp_Wd D (sp_wX (sp_a6 h a1 a2 a3 a4 a5) (sp_a6 c1 c1 c2 c3 c4 c5) (fun _ => nI 0) (fun q => if q = i then nI 1 else g1 q) (fun q => if q = i then nI 1 else g2 q) (fun _ => nI 0) (fun _ => nI 0) (nI 0) (nI 0) (nI 0) (nI 0) (nI 0)) A s.heap H locs := hW
        refine lv_iinc (v := nI (i + 1)) (lv' := [(1, .int (nI (i + 1))), (0, .ref (h))]) hx hb dX0_init_61 hl (k := 1) rfl (nI_1 _) (by decide) rfl (fun ls hl => ?_)
        refine lv_goto (tgt := 42) hx hb dX0_init_64 (by decide) ?_
        exact ih (i + 1) _ _ (by omega) (lt_s (fun k hk => by show (if k = i then _ else g1 k) = _; rw [if_neg (by omega)]; exact hg k hk) (by show (if i = i then _ else _) = _; rw [if_pos rfl])) (lt_s (fun k hk => by show (if k = i then _ else g2 k) = _; rw [if_neg (by omega)]; exact hg2 k hk) (by show (if i = i then _ else _) = _; rw [if_pos rfl])) _ _ _ hW (lv_sub hl [1, 0] rfl)
  exact loop 4 0 _ _ (by omega) lt_0 lt_0 _ _ _ hW (lv_sub hl [1, 0] rfl)
set_option maxHeartbeats 4000000 in
set_option maxRecDepth 100000 in
/-- the constructor -/
theorem metX1_init (l : Launch) (D : va_G) (h : Nat) : sp_MC l D yX1_init cX1_init 2 ({ frames := 1, cells := 5, slots := 4112, locals := 12 } : Room) h 1 [.null, .null, .null, .null, .null, .int (nI 0), .int (nI 0)] 5 4112 (S := (Nat → Nat) × (Nat → ClassId)) (fun u => sp_tY u.2) (fun u => sp_wY (sp_a6 h (u.1 1) (u.1 2) (u.1 3) (u.1 4) (u.1 5)) u.2 (sp_aI (fun _ => 0)) (sp_aI (fun _ => 1)) (sp_aI (sp_dt 0)) (fun _ => nI 0) (fun _ => nI 0) (nI 0) (nI 0)) := by
  refine sp_entC (own := RX1) (by decide) rfl rfl (Nat.le_of_ble_eq_true rfl) ?_
  intro pg ev s mi args below meth cd A Q ls hC hin hW hret hl
  obtain ⟨hx, hb, hml, hown, hts, -⟩ := id hC
  refine lv_aload_n hx hb dX1_init_0 rfl (lv_at hl 0 rfl) ?_
  refine W.objInit hx hb hown (hts _ q187) (hts _ q38) (hts _ q39) rfl (by rw [hml]; exact hl.1) rfl dX1_init_1 (Nat.le_of_ble_eq_true rfl) (Nat.le_of_ble_eq_true rfl) ?_
  refine W.eq (g2 := F0 mi 4 ls []) rfl ?_
  refine lv_aload_n hx hb dX1_init_4 rfl (lv_at hl 0 rfl) ?_
  refine lv_iconst (v := nI 4) hx hb dX1_init_5 (by decide) ?_
  refine sp_newa (atype := .int) hC hW q72 rfl (fun _ => rfl) (by decide) (by decide) (Nat.le_of_ble_eq_true rfl) (Nat.le_of_ble_eq_true rfl) dX1_init_6 (fun a1 c1 H hC hW => ?_)
  have hW : sp_Wd D [(h, .inr (1, [.null, .null, .null, .null, .null, .int (nI 0), .int (nI 0)])), (a1, .inl (c1, 4, .inl (fun _ => nI 0)))] A s.heap H _ := hW
  refine sp_put1 hC hW 0 (by decide) q188 rfl rfl (ty := .array .int) (v := .ref a1) (by decide +kernel) rfl rfl (Nat.le_of_ble_eq_true rfl) dX1_init_8 (fun H locs hW => ?_)
  have hW : sp_Wd D [(h, .inr (1, [.ref a1, .null, .null, .null, .null, .int (nI 0), .int (nI 0)])), (a1, .inl (c1, 4, .inl (fun _ => nI 0)))] A s.heap H locs := hW
  refine lv_aload_n hx hb dX1_init_11 rfl (lv_at hl 0 rfl) ?_
  refine lv_iconst (v := nI 4) hx hb dX1_init_12 (by decide) ?_
  refine sp_newa (atype := .int) hC hW q72 rfl (fun _ => rfl) (by decide) (by decide) (Nat.le_of_ble_eq_true rfl) (Nat.le_of_ble_eq_true rfl) dX1_init_13 (fun a2 c2 H hC hW => ?_)
  have hW : sp_Wd D [(h, .inr (1, [.ref a1, .null, .null, .null, .null, .int (nI 0), .int (nI 0)])), (a1, .inl (c1, 4, .inl (fun _ => nI 0))), (a2, .inl (c2, 4, .inl (fun _ => nI 0)))] A s.heap H _ := hW
  refine sp_put1 hC hW 1 (by decide) q189 rfl rfl (ty := .array .int) (v := .ref a2) (by decide +kernel) rfl rfl (Nat.le_of_ble_eq_true rfl) dX1_init_15 (fun H locs hW => ?_)
  have hW : sp_Wd D [(h, .inr (1, [.ref a1, .ref a2, .null, .null, .null, .int (nI 0), .int (nI 0)])), (a1, .inl (c1, 4, .inl (fun _ => nI 0))), (a2, .inl (c2, 4, .inl (fun _ => nI 0)))] A s.heap H locs := hW
  refine lv_aload_n hx hb dX1_init_18 rfl (lv_at hl 0 rfl) ?_
  refine lv_iconst (v := nI 4) hx hb dX1_init_19 (by decide) ?_
  refine sp_newa (atype := .int) hC hW q72 rfl (fun _ => rfl) (by decide) (by decide) (Nat.le_of_ble_eq_true rfl) (Nat.le_of_ble_eq_true rfl) dX1_init_20 (fun a3 c3 H hC hW => ?_)
  have hW : sp_Wd D [(h, .inr (1, [.ref a1, .ref a2, .null, .null, .null, .int (nI 0), .int (nI 0)])), (a1, .inl (c1, 4, .inl (fun _ => nI 0))), (a2, .inl (c2, 4, .inl (fun _ => nI 0))), (a3, .inl (c3, 4, .inl (fun _ => nI 0)))] A s.heap H _ := hW
  refine sp_put1 hC hW 2 (by decide) q190 rfl rfl (ty := .array .int) (v := .ref a3) (by decide +kernel) rfl rfl (Nat.le_of_ble_eq_true rfl) dX1_init_22 (fun H locs hW => ?_)
  have hW : sp_Wd D [(h, .inr (1, [.ref a1, .ref a2, .ref a3, .null, .null, .int (nI 0), .int (nI 0)])), (a1, .inl (c1, 4, .inl (fun _ => nI 0))), (a2, .inl (c2, 4, .inl (fun _ => nI 0))), (a3, .inl (c3, 4, .inl (fun _ => nI 0)))] A s.heap H locs := hW
  refine lv_aload_n hx hb dX1_init_25 rfl (lv_at hl 0 rfl) ?_
  refine lv_iconst (v := nI 4) hx hb dX1_init_26 (by decide) ?_
  refine sp_newa (atype := .int) hC hW q72 rfl (fun _ => rfl) (by decide) (by decide) (Nat.le_of_ble_eq_true rfl) (Nat.le_of_ble_eq_true rfl) dX1_init_27 (fun a4 c4 H hC hW => ?_)
  have hW : sp_Wd D [(h, .inr (1, [.ref a1, .ref a2, .ref a3, .null, .null, .int (nI 0), .int (nI 0)])), (a1, .inl (c1, 4, .inl (fun _ => nI 0))), (a2, .inl (c2, 4, .inl (fun _ => nI 0))), (a3, .inl (c3, 4, .inl (fun _ => nI 0))), (a4, .inl (c4, 4, .inl (fun _ => nI 0)))] A s.heap H _ := hW
  refine sp_put1 hC hW 3 (by decide) q191 rfl rfl (ty := .array .int) (v := .ref a4) (by decide +kernel) rfl rfl (Nat.le_of_ble_eq_true rfl) dX1_init_29 (fun H locs hW => ?_)
  have hW : sp_Wd D [(h, .inr (1, [.ref a1, .ref a2, .ref a3, .ref a4, .null, .int (nI 0), .int (nI 0)])), (a1, .inl (c1, 4, .inl (fun _ => nI 0))), (a2, .inl (c2, 4, .inl (fun _ => nI 0))), (a3, .inl (c3, 4, .inl (fun _ => nI 0))), (a4, .inl (c4, 4, .inl (fun _ => nI 0)))] A s.heap H locs := hW
  refine lv_aload_n hx hb dX1_init_32 rfl (lv_at hl 0 rfl) ?_
  refine lv_sipush (v := nI 4096) hx hb dX1_init_33 (by decide) ?_
  refine sp_newa (atype := .boolean) hC hW q210 rfl (fun _ => rfl) (by decide) (by decide) (Nat.le_of_ble_eq_true rfl) (Nat.le_of_ble_eq_true rfl) dX1_init_36 (fun a5 c5 H hC hW => ?_)
  have hW : sp_Wd D [(h, .inr (1, [.ref a1, .ref a2, .ref a3, .ref a4, .null, .int (nI 0), .int (nI 0)])), (a1, .inl (c1, 4, .inl (fun _ => nI 0))), (a2, .inl (c2, 4, .inl (fun _ => nI 0))), (a3, .inl (c3, 4, .inl (fun _ => nI 0))), (a4, .inl (c4, 4, .inl (fun _ => nI 0))), (a5, .inl (c5, 4096, .inl (fun _ => nI 0)))] A s.heap H _ := hW
  refine sp_put1 hC hW 4 (by decide) q192 rfl rfl (ty := .array .boolean) (v := .ref a5) (by decide +kernel) rfl rfl (Nat.le_of_ble_eq_true rfl) dX1_init_38 (fun H locs hW => ?_)
  have hW : sp_Wd D [(h, .inr (1, [.ref a1, .ref a2, .ref a3, .ref a4, .ref a5, .int (nI 0), .int (nI 0)])), (a1, .inl (c1, 4, .inl (fun _ => nI 0))), (a2, .inl (c2, 4, .inl (fun _ => nI 0))), (a3, .inl (c3, 4, .inl (fun _ => nI 0))), (a4, .inl (c4, 4, .inl (fun _ => nI 0))), (a5, .inl (c5, 4096, .inl (fun _ => nI 0)))] A s.heap H locs := hW
  have hC : sp_C pg s mi cd args cX1_init 2 RX1 D (sp_tY (sp_a6 c1 c1 c2 c3 c4 c5)) := hC
  have hW : sp_Wd D (sp_wY (sp_a6 h a1 a2 a3 a4 a5) (sp_a6 c1 c1 c2 c3 c4 c5) (fun _ => nI 0) (fun _ => nI 0) (fun _ => nI 0) (fun _ => nI 0) (fun _ => nI 0) (nI 0) (nI 0)) A s.heap H locs := hW
  refine lv_aload_n hx hb dX1_init_41 rfl (lv_at hl 0 rfl) ?_
  refine lv_iconst (v := nI 0) hx hb dX1_init_42 (by decide) ?_
  refine sp_put1 hC hW 5 (by decide) q193 rfl rfl (ty := .boolean) (v := .int (nI 0)) (by decide +kernel) (by decide) (by decide) (Nat.le_of_ble_eq_true rfl) dX1_init_43 (fun H locs hW => ?_)
  have hW : sp_Wd D (sp_wY (sp_a6 h a1 a2 a3 a4 a5) (sp_a6 c1 c1 c2 c3 c4 c5) (fun _ => nI 0) (fun _ => nI 0) (fun _ => nI 0) (fun _ => nI 0) (fun _ => nI 0) (nI 0) (nI 0)) A s.heap H locs := hW
  refine lv_iconst (v := nI 0) hx hb dX1_init_46 (by decide) ?_
  refine lv_istore_n (lv' := [(1, .int (nI 0)), (0, .ref (h))]) hx hb dX1_init_47 rfl hl (by decide) rfl (fun ls hl => ?_)
  have loop : ∀ (n i : Nat) (g1 : Nat → Int32), i + n = 4 → (∀ k, k < i → g1 k = nI 1) → ∀ (H : Heap) (locs : List Loc) (ls : Array Slot), sp_Wd D (sp_wY (sp_a6 h a1 a2 a3 a4 a5) (sp_a6 c1 c1 c2 c3 c4 c5) (fun _ => nI 0) (g1) (fun _ => nI 0) (fun _ => nI 0) (fun _ => nI 0) (nI 0) (nI 0)) A s.heap H locs → lv_has ls 2 [(0, .ref (h)), (1, .int (nI i))] → W pg l ev ({ frames := 1, cells := 5, slots := 4112, locals := 12 } : Room) s mi args below meth cd H locs 5 4112 Q (F0 mi 48 ls []) := by
    intro n
    induction n with
    | zero =>
      intro i g1 hi_i hg H locs ls hW hl
      refine lv_iload_n hx hb dX1_init_48 rfl (lv_at hl 1 rfl) ?_
      refine lv_iconst (v := nI 4) hx hb dX1_init_49 (by decide) ?_
      refine sp_icmp_ge (a := i) (b := 4) (tgt := 66) hx hb dX1_init_50 (by decide) (by omega) (by omega) (fun c => ?_) (fun c => ?_)
      · skip
        have hW := hW.arr 2 rfl (sp_aI (fun _ => 1)) (fun j hj => hg j (by omega))
        have hW := hW.arr 3 rfl (sp_aI (sp_dt 0)) (fun j hj => by rcases sp_lt4 hj with rfl | rfl | rfl | rfl <;> rfl)
        exact hret _ _ _ _ (sp_a6 h a1 a2 a3 a4 a5, sp_a6 c1 c1 c2 c3 c4 c5) dX1_init_66 hC.2.2.2.2.2 hW
      · skip
        exfalso; omega
    | succ n ih =>
      intro i g1 hi_i hg H locs ls hW hl
      refine lv_iload_n hx hb dX1_init_48 rfl (lv_at hl 1 rfl) ?_
      refine lv_iconst (v := nI 4) hx hb dX1_init_49 (by decide) ?_
      refine sp_icmp_ge (a := i) (b := 4) (tgt := 66) hx hb dX1_init_50 (by decide) (by omega) (by omega) (fun c => ?_) (fun c => ?_)
      · skip
        exfalso; omega
      · skip
        refine lv_aload_n hx hb dX1_init_53 rfl (lv_at hl 0 rfl) ?_
        refine sp_get1 hC hW 1 (by decide) q189 rfl (v := .ref ((sp_a6 h a1 a2 a3 a4 a5) 2)) rfl dX1_init_54 ?_
        refine lv_iload_n hx hb dX1_init_57 rfl (lv_at hl 1 rfl) ?_
        refine lv_iconst (v := nI 1) hx hb dX1_init_58 (by decide) ?_
        refine sp_iast hC hW 2 1 rfl rfl (k := i) (x := nI 1) (by omega) (by decide) (fun q => if q = i then nI 1 else g1 q) (fun _ _ => rfl) dX1_init_59 (fun H locs hW => ?_)
        have hW : sp_Wd D (sp_wY (sp_a6 h a1 a2 a3 a4 a5) (sp_a6 c1 c1 c2 c3 c4 c5) (fun _ => nI 0) (fun q => if q = i then nI 1 else g1 q) (fun _ => nI 0) (fun _ => nI 0) (fun _ => nI 0) (nI 0) (nI 0)) A s.heap H locs := hW
        refine lv_iinc (v := nI (i + 1)) (lv' := [(1, .int (nI (i + 1))), (0, .ref (h))]) hx hb dX1_init_60 hl (k := 1) rfl (nI_1 _) (by decide) rfl (fun ls hl => ?_)
        refine lv_goto (tgt := 48) hx hb dX1_init_63 (by decide) ?_
        exact ih (i + 1) _ (by omega) (lt_s (fun k hk => by show (if k = i then _ else g1 k) = _; rw [if_neg (by omega)]; exact hg k hk) (by show (if i = i then _ else _) = _; rw [if_pos rfl])) _ _ _ hW (lv_sub hl [1, 0] rfl)
  exact loop 4 0 _ (by omega) lt_0 _ _ _ hW (lv_sub hl [1, 0] rfl)
end
section
set_option maxRecDepth 100000
/-! the law: calls on a part of the world -/
abbrev sp_U : Type := (Nat → Int32) × (Nat → Int32) × Int32 × Int32 × Int32 × Int32
abbrev sp_V : Type := (Nat → Int32) × (Nat → Int32) × Int32 × Int32
abbrev sp_LX (ad : Nat → Nat) (dc : Nat → ClassId) (nb sk : Nat → Nat) (kp : Nat) (u : sp_U) : va_W := sp_wX ad dc (sp_aI nb) (sp_aI sk) (sp_aI (sp_dg (sp_E nb) sk)) u.1 u.2.1 (nI kp) u.2.2.1 u.2.2.2.1 u.2.2.2.2.1 u.2.2.2.2.2
abbrev sp_LY (ad : Nat → Nat) (dc : Nat → ClassId) (nb sk : Nat → Nat) (kp : Nat) (v : sp_V) : va_W := sp_wY ad dc (sp_aI nb) (sp_aI sk) (sp_aI (sp_dt kp)) v.1 v.2.1 v.2.2.1 v.2.2.2
section SPL
variable {p : Program} {l : Launch} {e : Env} {R : Room} {s : State} {m : MethodId} {args : Array Value} {below : List Frame} {meth : Method} {c : Code} {H : Heap} {locs : List Loc} {cells slots : Nat} {Q : State → Prop}
variable {cc : ByteArray} {pc nL : Nat} {own : String} {ls : Array Slot} {rest : List Value} {D : va_G} {A : Nat → Prop} {a : Nat} {tys tysC : List (ClassId × FieldType)} {w wc wr : va_W}
variable {y : MethodName} {cy : ByteArray} {nLy n index : Nat} {rt : FieldType} {rm : Room} {As : List Value} {S : Type} {w' : S → va_W} {C : String} {ci : Nat} {fs : List Value} {lv : List (Nat × Value)} {st0 : List Value} {T : u_T} {N : Nat}
theorem sp_lcI {post : Int32 → S → Prop} (hx : p.tables.exec = Jvm.exec) (hb : c.code = cc) (hml : c.maxLocals = nL) (hown : s.vm.findClass own = some m.cls) (hts : ∀ w ∈ lw_all, w.before args s = true) (hK : va_K D vwCl tysC s) (hW : sp_Wd D w A s.heap H locs)
    (isC isR : List Nat) (hCm : isC.map (fun i => w[i]?) = wc.map some) (hRm : isR.map (fun i => w[i]?) = wr.map some) (hf9 : isC.filterMap (fun i => w[i]?) = wc) (hnC : va_nd isC = true) (hnR : va_nd isR = true) (hdis : ∀ i ∈ isR, i ∉ isC)
    (hM : sp_MI l D tysC y cy nLy rt rm (.ref a :: As) wc post w') (hrec : wc[0]? = some (a, .inr (ci, fs)))
    (q1 : Cond.methodLink own index y ∈ lw_all) (q2 : Cond.instanceMethod y ∈ lw_all) (q3 : Cond.selects C y y ∈ lw_all) (q4 : Cond.initialized C ∈ lw_all) (q5 : Cond.code y cy nLy (some rt) ∈ lw_all)
    (hci : vwCl[ci]? = some (C, T, N)) (hrc : rm.cells = 0) (hrs : rm.slots = 0)
    (hd : y.cls = C ∧ y.cls ≠ "java/lang/invoke/MethodHandle" ∧ y.cls ≠ "java/lang/invoke/VarHandle" ∧ (parseMethodDescriptor y.desc).map (fun d => d.parameters.length) = some n) (hR : rm.frames + 1 ≤ R.frames ∧ 8 + (nLy + 11) + rm.locals ≤ R.locals)
    (hn : As.length = n) (hl : lv_has ls nL lv) (hst : st0 = As.reverse ++ .ref a :: rest) (hroom : (rest.map fun v => v.category).sum ≤ 8) (hf : cells + 0 ≤ R.cells ∧ slots + 0 ≤ R.slots) (hdg : decode cc pc = .ok (.invokevirtual index, 3))
    (kk : ∀ (r : Int32) (u : S) (H1 : Heap) (locs1 : List Loc), post r u → sp_Wd D (wr ++ w' u) A s.heap H1 locs1 → W p l e R s m args below meth c H1 locs1 cells slots Q (F0 m (pc + 3) ls (.int r :: rest))) : W p l e R s m args below meth c H locs cells slots Q (F0 m pc ls st0) := by
  have hPc := hW.1.sub (ws' := wc) isC hf9
  have hDc := hW.2.1.sub (ws' := wc) isC hnC hCm
  have hFc := va_free (wc := wc) hW.2.1 hW.2.2.1 hW.2.2.2 isC hCm
  refine va_calli (va_runV (As := As) (rest := rest) (C := C) ⟨hx, hb, hml, hown, hts⟩ (hM H.size) (cwV n hts (lw_V q1 q2 q3 q4 q5) rfl hrc hrs hd hR) ⟨fun a U g mk q => by obtain ⟨q0, q1, qP, qK, qD⟩ := q; exact ⟨q0, q1, qP, va_K.moved (u := U) (U := U.calling g mk a) (Vm.Alike.refl U.vm) qK, qD⟩, va_recv hK hPc hci (q0 := 0) hrec, fun U hU hWm => ⟨rfl, by rw [hU], by rw [hU]; exact hPc, va_K.moved hWm.alike hK, hDc.weaken (fun _ _ _ _ => trivial)⟩⟩ rfl hn hl.1 hst (lv_room hroom) hdg hf) hW.2.2.1 (fun q _ h => hFc q h) hFc (fun r u t H1 locs1 ht hvm hpost hB hz1 hk1 hS => ?_)
  obtain ⟨hP2, hD2⟩ := va_join (wr := wr) (w1 := w' u) hW.1 hW.2.1 isC isR hCm hRm hnR hdis hk1 hFc (by rw [← ht]; exact hB.1) hB.2.2
  exact kk r u H1 locs1 hpost ⟨hP2, hD2, hS, hW.2.2.2⟩
theorem sp_lcC {mc ms : Nat} {tys' : S → List (ClassId × FieldType)} (hx : p.tables.exec = Jvm.exec) (hb : c.code = cc) (hml : c.maxLocals = nL) (hown : s.vm.findClass own = some m.cls) (hts : ∀ w ∈ lw_all, w.before args s = true) (hK : va_K D vwCl tys s) (hW : sp_Wd D w A s.heap H locs)
    (isC isR : List Nat) (hCm : isC.map (fun i => w[i]?) = [(a, (.inr (ci, fs) : va_E))].map some) (hRm : isR.map (fun i => w[i]?) = wr.map some) (hf9 : isC.filterMap (fun i => w[i]?) = [(a, .inr (ci, fs))]) (hnC : va_nd isC = true) (hnR : va_nd isR = true) (hdis : ∀ i ∈ isR, i ∉ isC)
    (hM : sp_MC l D y cy nLy rm a ci fs mc ms tys' w')
    (q1 : Cond.methodLink own index y ∈ lw_all) (q2 : Cond.instanceMethod y ∈ lw_all) (q4 : Cond.initialized y.cls ∈ lw_all) (q5 : Cond.code y cy nLy none ∈ lw_all) (hy1 : y.name = "<init>")
    (hrc : rm.cells = mc) (hrs : rm.slots = ms)
    (hd : y.cls ≠ "java/lang/invoke/MethodHandle" ∧ y.cls ≠ "java/lang/invoke/VarHandle" ∧ (parseMethodDescriptor y.desc).map (fun d => d.parameters.length) = some 0) (hR : rm.frames + 1 ≤ R.frames ∧ 8 + (nLy + 11) + rm.locals ≤ R.locals)
    (hl : lv_has ls nL lv) (hst : st0 = .ref a :: rest) (hroom : (rest.map fun v => v.category).sum ≤ 8) (hf : cells + mc ≤ R.cells ∧ slots + ms ≤ R.slots) (hdg : decode cc pc = .ok (.invokespecial index, 3))
    (kk : ∀ (u : S) (H1 : Heap) (locs1 : List Loc), va_K D vwCl (tys ++ tys' u) s → sp_Wd D (wr ++ w' u) A s.heap H1 locs1 → W p l e R s m args below meth c H1 locs1 (cells + mc) (slots + ms) Q (F0 m (pc + 3) ls rest)) : W p l e R s m args below meth c H locs cells slots Q (F0 m pc ls st0) := by
  have hPc := hW.1.sub (ws' := [(a, .inr (ci, fs))]) isC hf9
  have hDc := hW.2.1.sub (ws' := [(a, .inr (ci, fs))]) isC hnC hCm
  have hFc := va_free (wc := [(a, .inr (ci, fs))]) hW.2.1 hW.2.2.1 hW.2.2.2 isC hCm
  have hK0 : va_K D vwCl [] s := hK.sub [] rfl
  refine va_callv (va_runI (As := []) (rest := rest) ⟨hx, hb, hml, hown, hts⟩ (hM H.size) (cwI 0 hts (lw_meth q5) rfl hrc hrs (hts _ q4) (hts _ q1) (hts _ q2) hy1 hd hR) ⟨fun a U g mk q => by obtain ⟨q0, q1, qP, qK, qD⟩ := q; exact ⟨q0, q1, qP, va_K.moved (u := U) (U := U.calling g mk a) (Vm.Alike.refl U.vm) qK, qD⟩, fun U hU hWm => ⟨rfl, by rw [hU], by rw [hU]; exact hPc, va_K.moved hWm.alike hK0, hDc.weaken (fun _ _ _ _ => trivial)⟩⟩ rfl rfl hl.1 hst (lv_room hroom) hdg hf) hW.2.2.1 (fun q _ h => hFc q h) hFc (fun u t H1 locs1 ht hvm hpost hB hz1 hk1 hS => ?_)
  obtain ⟨hP2, hD2⟩ := va_join (wr := wr) (w1 := w' u) hW.1 hW.2.1 isC isR hCm hRm hnR hdis hk1 hFc (by rw [← ht]; exact hB.1) hB.2.2
  exact kk u H1 locs1 (hK.app (va_K.moved hvm.symm hB.2.1)) ⟨hP2, hD2, hS, hW.2.2.2⟩
theorem sp_sld (hx : p.tables.exec = Jvm.exec) (hb : c.code = cc) {b L : Nat} {xs : Nat → Int32} (hX : va_X b L xs s s.heap) (hbl : b < s.heap.size) (hbA : ¬ A b) (hW : sp_Wd D w A s.heap H locs) {k : Nat} (hk : k < L) (hL : L < 2 ^ 31) (hdg : decode cc pc = .ok (.iaload, 1))
    (kk : W p l e R s m args below meth c H locs cells slots Q (F0 m (pc + 1) ls (.int (xs k) :: rest))) : W p l e R s m args below meth c H locs cells slots Q (F0 m pc ls (.int (nI k) :: .ref b :: rest)) := by
  refine va_sld hx hb hX hbl hbA hW.2.2.1 (vp_in_nI hk hL) hdg ?_
  rw [nI_clamp (Nat.lt_trans hk hL)]; exact kk
end SPL
theorem sp_lawc {i L : Nat} (hi : i < 1000) (hL : L < 1000) : nI L - nI 4 < nI i ↔ L < i + 4 := by
  rw [Int32.lt_iff_toInt_lt, pk_sub_toInt (by omega) (by omega), nI_toInt (by omega)]
  omega
end
section
/-! THE CLAIM OUT OF ONE WALK OF THE LAW'S BODY. Your part is whole_start (and what it stands on); all else here is the same for every law, but numbers. -/
def R_law : String := "SandpileLabLaw"
def lw_P (b : Addr) (xs : List Int32) (args : Array Value) (s : State) : Prop := args = #[.ref b] ∧ s.IntsAt b xs ∧ xs.length ≤ 256 ∧ (Jvm.Cond.and given_1 narrow_1).before args s = true
def lw_Q (_ : Array Value) (s : State) (o : Outcome) (t : State) : Prop := o = .returned (some (.int 1)) ∧ Framed s o t [] 600000 7290000
def lw_Z (below : List Frame) (a : Array Value) (s : State) : State → Prop := fun t => ∃ o, t.status = .running ∧ Ended t below o ∧ lw_Q a s o t
/-- the law's own end, with 1 on the stack, nothing written that was there before, its room as the claim has it -/
theorem lw_ret {p : Program} {l : Launch} {e : Env} {s : State} {m : MethodId} {below : List Frame} {meth : Method} {c : Code} {b : Nat} (hx : p.tables.exec = Jvm.exec) (hb : c.code = code) (hr : meth.sig.returnType = ret) (hlocks : meth.locks = false) {pc : Nat} {H : Heap} {ls : Array Slot} (hdg : decode code pc = .ok (.ireturn, 1)) : W p l e room_1 s m #[Value.ref b] below meth c H [] 600000 7290000 (lw_Z below #[Value.ref b] s) (F0 m pc ls [.int 1]) := by
  intro T hT X
  obtain ⟨fs, hret, hrun, hended, hW, hframe⟩ := X.leave (v := some (.int 1)) (hlocks := hlocks) (fun h => by rw [hr] at h; cases h)
  have hmeth' : T.vm.method? m = some meth := X.method'
  refine ⟨T.setFrames fs, ?_, .returned (some (.int 1)), hrun, hended, rfl, ⟨_, rfl⟩, hW, hframe⟩
  jvm_step X.here [X.here.top, hx, hb, hdg, hmeth', hr, ret, narrow_b1]
  (try refine ⟨rfl, ?_⟩); (try refine ⟨rfl, ?_⟩)
  first | (intro acts; rw [hret _ acts rfl rfl rfl]) | rw [hret _ _ rfl rfl rfl]
  exact Steps.refl _
/-- what holds at the law's entry: the machine, the code, the tables' words (any of lw_tbl by 'hts w (by decide +kernel)'), the script of L ints xs at the cell b, what the Statement gives of the start (any of its parts by flat_of_before) -/
def lw_At (p : Program) (s : State) (m : MethodId) (meth : Method) (c : Code) (b L : Nat) (xs : Nat → Int32) : Prop :=
  p.tables.exec = Jvm.exec ∧ c.code = code ∧ meth.sig.returnType = ret ∧ c.maxLocals = 4 ∧ s.vm.findClass R_law = some m.cls ∧ (∀ w ∈ lw_tbl, w.before #[Value.ref b] s = true) ∧ va_X b L xs s s.heap ∧ b < s.heap.size ∧ meth.locks = false ∧ (Jvm.Cond.and given_1 narrow_1).before #[Value.ref b] s = true
end
section
set_option maxRecDepth 100000
set_option maxHeartbeats 8000000 in
set_option maxRecDepth 100000 in
/-- the law's loop: both objects hold the same graph and the same kept state -/
theorem sp_lawloop {pg : Program} {ev : Env} {s : State} {mi : MethodId} {below : List Frame} {meth : Method} {cd : Code} (l : Launch) {b L : Nat} {xs : Nat → Int32} (hL : L ≤ 256) (C0 : lw_At pg s mi meth cd b L xs) (D : va_G) (adx ady : Nat → Nat) (dcx dcy : Nat → ClassId) (hK : va_K D vwCl (sp_tX dcx ++ sp_tY dcy) s) :
    ∀ (n i : Nat) (nb sk : Nat → Nat) (kp : Nat) (u : sp_U) (v : sp_V), L + 1 ≤ i + n → i ≤ 300 → sp_Ok nb sk → sp_KP nb sk kp → sp_Kn nb sk u.2.2.2.1 u.2.2.2.2.1 u.2.2.2.2.2 → sp_KF nb sk v.2.2.1 v.2.1 → ∀ (H : Heap) (locs : List Loc) (ls : Array Slot), sp_Wd D (sp_LX adx dcx nb sk kp u ++ sp_LY ady dcy nb sk kp v) (fun q => s.heap.size ≤ q) s.heap H locs → lv_has ls 4 [(0, .ref b), (1, .ref (adx 0)), (2, .ref (ady 0)), (3, .int (nI i))] → W pg l ev room_1 s mi #[Value.ref b] below meth cd H locs 12 4161 (lw_Z below #[Value.ref b] s) (F0 mi 18 ls []) := by
  obtain ⟨hx, hb, hr, hml, hown, hts0, hX, hbl, hlocks, -⟩ := id C0
  have hb : cd.code = cL_law := hb
  have hts : ∀ w ∈ lw_all, w.before #[Value.ref b] s = true := fun w h => hts0 w (lw_all_tbl h)
  have hbA : ¬ (fun q : Nat => s.heap.size ≤ q) b := Nat.not_le.mpr hbl
  have hKx : va_K D vwCl (sp_tX dcx) s := hK.sub [0, 1, 2, 3, 4] rfl
  have hKy : va_K D vwCl (sp_tY dcy) s := hK.sub [5, 6, 7, 8, 9] rfl
  intro n
  induction n with
  | zero =>
    intro i nb sk kp u v hn hi hok hkp hkn hkf H locs ls hW hl
    refine lv_iload_n hx hb dL_law_18 rfl (lv_at hl 3 rfl) ?_
    refine lv_aload_n hx hb dL_law_19 rfl (lv_at hl 0 rfl) ?_
    refine va_slen hx hb hX hbl hbA hW.2.2.1 dL_law_20 ?_
    refine sp_top (y := nI L) rfl ?_
    refine lv_iconst (v := nI 4) hx hb dL_law_21 (by decide) ?_
    refine lv_isub hx hb dL_law_22 ?_
    refine lv_icmp_gt (tgt := 441) hx hb dL_law_23 (by decide) (fun c => ?_) (fun c => ?_)
    · skip
      refine va_forget (fun q hq => hW.2.2.1.2.2 q hq) ?_
      refine lv_iconst (v := 1) hx hb dL_law_441 (by decide) ?_
      refine W.widen (k := 600000) (n := 7290000) (by decide) (by decide) ?_
      exact lw_ret hx hb hr hlocks dL_law_442
    · skip
      exact absurd ((sp_lawc (by omega) (by omega)).mpr (by omega)) c
  | succ n ih =>
    intro i nb sk kp u v hn hi hok hkp hkn hkf H locs ls hW hl
    refine lv_iload_n hx hb dL_law_18 rfl (lv_at hl 3 rfl) ?_
    refine lv_aload_n hx hb dL_law_19 rfl (lv_at hl 0 rfl) ?_
    refine va_slen hx hb hX hbl hbA hW.2.2.1 dL_law_20 ?_
    refine sp_top (y := nI L) rfl ?_
    refine lv_iconst (v := nI 4) hx hb dL_law_21 (by decide) ?_
    refine lv_isub hx hb dL_law_22 ?_
    refine lv_icmp_gt (tgt := 441) hx hb dL_law_23 (by decide) (fun c => ?_) (fun c => ?_)
    · skip
      refine va_forget (fun q hq => hW.2.2.1.2.2 q hq) ?_
      refine lv_iconst (v := 1) hx hb dL_law_441 (by decide) ?_
      refine W.widen (k := 600000) (n := 7290000) (by decide) (by decide) ?_
      exact lw_ret hx hb hr hlocks dL_law_442
    · skip
      have hi4 : i + 4 ≤ L := by
        rcases Nat.lt_or_ge L (i + 4) with q | q
        · exact absurd ((sp_lawc (by omega) (by omega)).mpr q) c
        · exact q
      refine lv_aload_n hx hb dL_law_26 rfl (lv_at hl 0 rfl) ?_
      refine lv_iload_n hx hb dL_law_27 rfl (lv_at hl 3 rfl) ?_
      refine sp_sld hx hb hX hbl hbA hW (k := i) (by omega) (by omega) dL_law_28 ?_
      refine lv_bipush (v := nI 15) hx hb dL_law_29 (by decide) ?_
      refine lv_iand hx hb dL_law_31 ?_
      obtain ⟨j, hj, hje⟩ := pk_andE (xs i) (m := nI 15) 4 (by decide)
      refine sp_top hje ?_
      have hj : j < 16 := hj
      rcases (show j = 0 ∨ j = 1 ∨ j = 2 ∨ j = 3 ∨ j = 4 ∨ j = 5 ∨ j = 6 ∨ j = 7 ∨ j = 8 ∨ j = 9 ∨ j = 10 ∨ j = 11 ∨ j = 12 ∨ j = 13 ∨ j = 14 ∨ j = 15 by omega) with rfl | rfl | rfl | rfl | rfl | rfl | rfl | rfl | rfl | rfl | rfl | rfl | rfl | rfl | rfl | rfl
      · skip
        refine lv_tableIn (off := 68) (tgt := 100) hx hb dL_law_32 (by decide) (by decide) (by decide) (by decide) ?_
        refine lv_aload_n hx hb dL_law_100 rfl (lv_at hl 1 rfl) ?_
        refine lv_aload_n hx hb dL_law_101 rfl (lv_at hl 0 rfl) ?_
        refine lv_iload_n hx hb dL_law_102 rfl (lv_at hl 3 rfl) ?_
        refine lv_iconst (v := nI 1) hx hb dL_law_103 (by decide) ?_
        refine lv_iadd hx hb dL_law_104 ?_
        refine sp_top (y := nI (i + 1)) (nI_add _ _) ?_
        refine sp_sld hx hb hX hbl hbA hW (k := i + 1) (by omega) (by omega) dL_law_105 ?_
        refine lv_aload_n hx hb dL_law_106 rfl (lv_at hl 0 rfl) ?_
        refine lv_iload_n hx hb dL_law_107 rfl (lv_at hl 3 rfl) ?_
        refine lv_iconst (v := nI 2) hx hb dL_law_108 (by decide) ?_
        refine lv_iadd hx hb dL_law_109 ?_
        refine sp_top (y := nI (i + 2)) (nI_add _ _) ?_
        refine sp_sld hx hb hX hbl hbA hW (k := i + 2) (by omega) (by omega) dL_law_110 ?_
        refine lv_aload_n hx hb dL_law_111 rfl (lv_at hl 0 rfl) ?_
        refine lv_iload_n hx hb dL_law_112 rfl (lv_at hl 3 rfl) ?_
        refine lv_iconst (v := nI 3) hx hb dL_law_113 (by decide) ?_
        refine lv_iadd hx hb dL_law_114 ?_
        refine sp_top (y := nI (i + 3)) (nI_add _ _) ?_
        refine sp_sld hx hb hX hbl hbA hW (k := i + 3) (by omega) (by omega) dL_law_115 ?_
        refine lv_if_eq (tgt := 123) hx hb dL_law_116 (by decide) (fun ct => ?_) (fun ct => ?_)
        · skip
          refine lv_iconst (v := nI 0) hx hb dL_law_123 (by decide) ?_
          refine sp_lcI (own := R_law) (wc := sp_LX adx dcx nb sk kp u) (wr := sp_LY ady dcy nb sk kp v) (n := 3) (rest := []) hx hb hml hown hts hKx hW [0, 1, 2, 3, 4, 5] [6, 7, 8, 9, 10, 11] rfl rfl rfl (by decide) (by decide) (by decide) (metX0_edge l D adx dcx nb sk hok kp hkp _ _ _ _ _ _ hkn (xs (i + 1)) (xs (i + 2)) (nI 0)) rfl q73 q74 q75 q30 q76 rfl rfl rfl (by decide +kernel) ⟨Nat.le_of_ble_eq_true rfl, Nat.le_of_ble_eq_true rfl⟩ rfl hl rfl (Nat.le_of_ble_eq_true rfl) ⟨Nat.le_of_ble_eq_true rfl, Nat.le_of_ble_eq_true rfl⟩ dL_law_124 (fun r1 u1 H locs hp1 hW => ?_)
          have hW : sp_Wd D (sp_LY ady dcy nb sk kp v ++ sp_LX adx dcx (sp_nbE nb (xs (i + 1)) (xs (i + 2)) (nI 0)) sk (sp_kpE kp (xs (i + 1)) (xs (i + 2))) u1) (fun q => s.heap.size ≤ q) s.heap H locs := hW
          refine lv_aload_n hx hb dL_law_127 rfl (lv_at hl 2 rfl) ?_
          refine lv_aload_n hx hb dL_law_128 rfl (lv_at hl 0 rfl) ?_
          refine lv_iload_n hx hb dL_law_129 rfl (lv_at hl 3 rfl) ?_
          refine lv_iconst (v := nI 1) hx hb dL_law_130 (by decide) ?_
          refine lv_iadd hx hb dL_law_131 ?_
          refine sp_top (y := nI (i + 1)) (nI_add _ _) ?_
          refine sp_sld hx hb hX hbl hbA hW (k := i + 1) (by omega) (by omega) dL_law_132 ?_
          refine lv_aload_n hx hb dL_law_133 rfl (lv_at hl 0 rfl) ?_
          refine lv_iload_n hx hb dL_law_134 rfl (lv_at hl 3 rfl) ?_
          refine lv_iconst (v := nI 2) hx hb dL_law_135 (by decide) ?_
          refine lv_iadd hx hb dL_law_136 ?_
          refine sp_top (y := nI (i + 2)) (nI_add _ _) ?_
          refine sp_sld hx hb hX hbl hbA hW (k := i + 2) (by omega) (by omega) dL_law_137 ?_
          refine lv_aload_n hx hb dL_law_138 rfl (lv_at hl 0 rfl) ?_
          refine lv_iload_n hx hb dL_law_139 rfl (lv_at hl 3 rfl) ?_
          refine lv_iconst (v := nI 3) hx hb dL_law_140 (by decide) ?_
          refine lv_iadd hx hb dL_law_141 ?_
          refine sp_top (y := nI (i + 3)) (nI_add _ _) ?_
          refine sp_sld hx hb hX hbl hbA hW (k := i + 3) (by omega) (by omega) dL_law_142 ?_
          refine lv_if_eq (tgt := 150) hx hb dL_law_143 (by decide) (fun ct2 => ?_) (fun ct2 => ?_)
          · skip
            refine lv_iconst (v := nI 0) hx hb dL_law_150 (by decide) ?_
            refine sp_lcI (own := R_law) (wc := sp_LY ady dcy nb sk kp v) (wr := sp_LX adx dcx (sp_nbE nb (xs (i + 1)) (xs (i + 2)) (nI 0)) sk (sp_kpE kp (xs (i + 1)) (xs (i + 2))) u1) (n := 3) (rest := [.int r1]) hx hb hml hown hts hKy hW [0, 1, 2, 3, 4, 5] [6, 7, 8, 9, 10, 11] rfl rfl rfl (by decide) (by decide) (by decide) (metX1_edge l D ady dcy nb sk hok kp hkp _ _ _ _ hkf (xs (i + 1)) (xs (i + 2)) (nI 0)) rfl q211 q212 q213 q31 q214 rfl rfl rfl (by decide +kernel) ⟨Nat.le_of_ble_eq_true rfl, Nat.le_of_ble_eq_true rfl⟩ rfl hl rfl (Nat.le_of_ble_eq_true rfl) ⟨Nat.le_of_ble_eq_true rfl, Nat.le_of_ble_eq_true rfl⟩ dL_law_151 (fun r2 v1 H locs hp2 hW => ?_)
            have hW : sp_Wd D (sp_LX adx dcx (sp_nbE nb (xs (i + 1)) (xs (i + 2)) (nI 0)) sk (sp_kpE kp (xs (i + 1)) (xs (i + 2))) u1 ++ sp_LY ady dcy (sp_nbE nb (xs (i + 1)) (xs (i + 2)) (nI 0)) sk (sp_kpE kp (xs (i + 1)) (xs (i + 2))) v1) (fun q => s.heap.size ≤ q) s.heap H locs := hW
            refine lv_icmp_eq (tgt := 435) hx hb dL_law_154 (by decide) (fun ce => ?_) (fun ce => ?_)
            · skip
              refine lv_iinc (v := nI (i + 4)) (lv' := [(3, .int (nI (i + 4))), (0, .ref (b)), (1, .ref (adx 0)), (2, .ref (ady 0))]) hx hb dL_law_435 hl (k := 3) rfl (nI_add i 4) (by decide) rfl (fun ls hl => ?_)
              refine lv_goto (tgt := 18) hx hb dL_law_438 (by decide) ?_
              exact ih (i + 4) (sp_nbE nb (xs (i + 1)) (xs (i + 2)) (nI 0)) sk (sp_kpE kp (xs (i + 1)) (xs (i + 2))) u1 v1 (by omega) (by omega) (sp_nbE_ok hok _ _ _) (sp_KP_E hok hkp _ _ _) (hp1.2) (hp2.2) _ _ _ hW (lv_sub hl [1, 2, 3, 0] rfl)
            · skip
              exact absurd (sp_QB.uni hp1.1 hp2.1) ce
          · skip
            exact absurd ct ct2
        · skip
          refine lv_iconst (v := nI 1) hx hb dL_law_119 (by decide) ?_
          refine lv_goto (tgt := 124) hx hb dL_law_120 (by decide) ?_
          refine sp_lcI (own := R_law) (wc := sp_LX adx dcx nb sk kp u) (wr := sp_LY ady dcy nb sk kp v) (n := 3) (rest := []) hx hb hml hown hts hKx hW [0, 1, 2, 3, 4, 5] [6, 7, 8, 9, 10, 11] rfl rfl rfl (by decide) (by decide) (by decide) (metX0_edge l D adx dcx nb sk hok kp hkp _ _ _ _ _ _ hkn (xs (i + 1)) (xs (i + 2)) (nI 1)) rfl q73 q74 q75 q30 q76 rfl rfl rfl (by decide +kernel) ⟨Nat.le_of_ble_eq_true rfl, Nat.le_of_ble_eq_true rfl⟩ rfl hl rfl (Nat.le_of_ble_eq_true rfl) ⟨Nat.le_of_ble_eq_true rfl, Nat.le_of_ble_eq_true rfl⟩ dL_law_124 (fun r1 u1 H locs hp1 hW => ?_)
          have hW : sp_Wd D (sp_LY ady dcy nb sk kp v ++ sp_LX adx dcx (sp_nbE nb (xs (i + 1)) (xs (i + 2)) (nI 1)) sk (sp_kpE kp (xs (i + 1)) (xs (i + 2))) u1) (fun q => s.heap.size ≤ q) s.heap H locs := hW
          refine lv_aload_n hx hb dL_law_127 rfl (lv_at hl 2 rfl) ?_
          refine lv_aload_n hx hb dL_law_128 rfl (lv_at hl 0 rfl) ?_
          refine lv_iload_n hx hb dL_law_129 rfl (lv_at hl 3 rfl) ?_
          refine lv_iconst (v := nI 1) hx hb dL_law_130 (by decide) ?_
          refine lv_iadd hx hb dL_law_131 ?_
          refine sp_top (y := nI (i + 1)) (nI_add _ _) ?_
          refine sp_sld hx hb hX hbl hbA hW (k := i + 1) (by omega) (by omega) dL_law_132 ?_
          refine lv_aload_n hx hb dL_law_133 rfl (lv_at hl 0 rfl) ?_
          refine lv_iload_n hx hb dL_law_134 rfl (lv_at hl 3 rfl) ?_
          refine lv_iconst (v := nI 2) hx hb dL_law_135 (by decide) ?_
          refine lv_iadd hx hb dL_law_136 ?_
          refine sp_top (y := nI (i + 2)) (nI_add _ _) ?_
          refine sp_sld hx hb hX hbl hbA hW (k := i + 2) (by omega) (by omega) dL_law_137 ?_
          refine lv_aload_n hx hb dL_law_138 rfl (lv_at hl 0 rfl) ?_
          refine lv_iload_n hx hb dL_law_139 rfl (lv_at hl 3 rfl) ?_
          refine lv_iconst (v := nI 3) hx hb dL_law_140 (by decide) ?_
          refine lv_iadd hx hb dL_law_141 ?_
          refine sp_top (y := nI (i + 3)) (nI_add _ _) ?_
          refine sp_sld hx hb hX hbl hbA hW (k := i + 3) (by omega) (by omega) dL_law_142 ?_
          refine lv_if_eq (tgt := 150) hx hb dL_law_143 (by decide) (fun ct2 => ?_) (fun ct2 => ?_)
          · skip
            exact absurd ct2 ct
          · skip
            refine lv_iconst (v := nI 1) hx hb dL_law_146 (by decide) ?_
            refine lv_goto (tgt := 151) hx hb dL_law_147 (by decide) ?_
            refine sp_lcI (own := R_law) (wc := sp_LY ady dcy nb sk kp v) (wr := sp_LX adx dcx (sp_nbE nb (xs (i + 1)) (xs (i + 2)) (nI 1)) sk (sp_kpE kp (xs (i + 1)) (xs (i + 2))) u1) (n := 3) (rest := [.int r1]) hx hb hml hown hts hKy hW [0, 1, 2, 3, 4, 5] [6, 7, 8, 9, 10, 11] rfl rfl rfl (by decide) (by decide) (by decide) (metX1_edge l D ady dcy nb sk hok kp hkp _ _ _ _ hkf (xs (i + 1)) (xs (i + 2)) (nI 1)) rfl q211 q212 q213 q31 q214 rfl rfl rfl (by decide +kernel) ⟨Nat.le_of_ble_eq_true rfl, Nat.le_of_ble_eq_true rfl⟩ rfl hl rfl (Nat.le_of_ble_eq_true rfl) ⟨Nat.le_of_ble_eq_true rfl, Nat.le_of_ble_eq_true rfl⟩ dL_law_151 (fun r2 v1 H locs hp2 hW => ?_)
            have hW : sp_Wd D (sp_LX adx dcx (sp_nbE nb (xs (i + 1)) (xs (i + 2)) (nI 1)) sk (sp_kpE kp (xs (i + 1)) (xs (i + 2))) u1 ++ sp_LY ady dcy (sp_nbE nb (xs (i + 1)) (xs (i + 2)) (nI 1)) sk (sp_kpE kp (xs (i + 1)) (xs (i + 2))) v1) (fun q => s.heap.size ≤ q) s.heap H locs := hW
            refine lv_icmp_eq (tgt := 435) hx hb dL_law_154 (by decide) (fun ce => ?_) (fun ce => ?_)
            · skip
              refine lv_iinc (v := nI (i + 4)) (lv' := [(3, .int (nI (i + 4))), (0, .ref (b)), (1, .ref (adx 0)), (2, .ref (ady 0))]) hx hb dL_law_435 hl (k := 3) rfl (nI_add i 4) (by decide) rfl (fun ls hl => ?_)
              refine lv_goto (tgt := 18) hx hb dL_law_438 (by decide) ?_
              exact ih (i + 4) (sp_nbE nb (xs (i + 1)) (xs (i + 2)) (nI 1)) sk (sp_kpE kp (xs (i + 1)) (xs (i + 2))) u1 v1 (by omega) (by omega) (sp_nbE_ok hok _ _ _) (sp_KP_E hok hkp _ _ _) (hp1.2) (hp2.2) _ _ _ hW (lv_sub hl [1, 2, 3, 0] rfl)
            · skip
              exact absurd (sp_QB.uni hp1.1 hp2.1) ce
      · skip
        refine lv_tableIn (off := 127) (tgt := 159) hx hb dL_law_32 (by decide) (by decide) (by decide) (by decide) ?_
        refine lv_aload_n hx hb dL_law_159 rfl (lv_at hl 1 rfl) ?_
        refine lv_aload_n hx hb dL_law_160 rfl (lv_at hl 0 rfl) ?_
        refine lv_iload_n hx hb dL_law_161 rfl (lv_at hl 3 rfl) ?_
        refine lv_iconst (v := nI 1) hx hb dL_law_162 (by decide) ?_
        refine lv_iadd hx hb dL_law_163 ?_
        refine sp_top (y := nI (i + 1)) (nI_add _ _) ?_
        refine sp_sld hx hb hX hbl hbA hW (k := i + 1) (by omega) (by omega) dL_law_164 ?_
        refine lv_aload_n hx hb dL_law_165 rfl (lv_at hl 0 rfl) ?_
        refine lv_iload_n hx hb dL_law_166 rfl (lv_at hl 3 rfl) ?_
        refine lv_iconst (v := nI 2) hx hb dL_law_167 (by decide) ?_
        refine lv_iadd hx hb dL_law_168 ?_
        refine sp_top (y := nI (i + 2)) (nI_add _ _) ?_
        refine sp_sld hx hb hX hbl hbA hW (k := i + 2) (by omega) (by omega) dL_law_169 ?_
        refine sp_lcI (own := R_law) (wc := sp_LX adx dcx nb sk kp u) (wr := sp_LY ady dcy nb sk kp v) (n := 2) (rest := []) hx hb hml hown hts hKx hW [0, 1, 2, 3, 4, 5] [6, 7, 8, 9, 10, 11] rfl rfl rfl (by decide) (by decide) (by decide) (metX0_sink l D adx dcx nb sk hok kp hkp _ _ _ _ _ _ hkn (xs (i + 1)) (xs (i + 2))) rfl q85 q86 q87 q30 q88 rfl rfl rfl (by decide +kernel) ⟨Nat.le_of_ble_eq_true rfl, Nat.le_of_ble_eq_true rfl⟩ rfl hl rfl (Nat.le_of_ble_eq_true rfl) ⟨Nat.le_of_ble_eq_true rfl, Nat.le_of_ble_eq_true rfl⟩ dL_law_170 (fun r1 u1 H locs hp1 hW => ?_)
        have hW : sp_Wd D (sp_LY ady dcy nb sk kp v ++ sp_LX adx dcx nb (sp_skS sk (xs (i + 1)) (xs (i + 2))) (sp_kpS kp (xs (i + 1)) (xs (i + 2))) u1) (fun q => s.heap.size ≤ q) s.heap H locs := hW
        refine lv_aload_n hx hb dL_law_173 rfl (lv_at hl 2 rfl) ?_
        refine lv_aload_n hx hb dL_law_174 rfl (lv_at hl 0 rfl) ?_
        refine lv_iload_n hx hb dL_law_175 rfl (lv_at hl 3 rfl) ?_
        refine lv_iconst (v := nI 1) hx hb dL_law_176 (by decide) ?_
        refine lv_iadd hx hb dL_law_177 ?_
        refine sp_top (y := nI (i + 1)) (nI_add _ _) ?_
        refine sp_sld hx hb hX hbl hbA hW (k := i + 1) (by omega) (by omega) dL_law_178 ?_
        refine lv_aload_n hx hb dL_law_179 rfl (lv_at hl 0 rfl) ?_
        refine lv_iload_n hx hb dL_law_180 rfl (lv_at hl 3 rfl) ?_
        refine lv_iconst (v := nI 2) hx hb dL_law_181 (by decide) ?_
        refine lv_iadd hx hb dL_law_182 ?_
        refine sp_top (y := nI (i + 2)) (nI_add _ _) ?_
        refine sp_sld hx hb hX hbl hbA hW (k := i + 2) (by omega) (by omega) dL_law_183 ?_
        refine sp_lcI (own := R_law) (wc := sp_LY ady dcy nb sk kp v) (wr := sp_LX adx dcx nb (sp_skS sk (xs (i + 1)) (xs (i + 2))) (sp_kpS kp (xs (i + 1)) (xs (i + 2))) u1) (n := 2) (rest := [.int r1]) hx hb hml hown hts hKy hW [0, 1, 2, 3, 4, 5] [6, 7, 8, 9, 10, 11] rfl rfl rfl (by decide) (by decide) (by decide) (metX1_sink l D ady dcy nb sk hok kp hkp _ _ _ _ hkf (xs (i + 1)) (xs (i + 2))) rfl q223 q224 q225 q31 q226 rfl rfl rfl (by decide +kernel) ⟨Nat.le_of_ble_eq_true rfl, Nat.le_of_ble_eq_true rfl⟩ rfl hl rfl (Nat.le_of_ble_eq_true rfl) ⟨Nat.le_of_ble_eq_true rfl, Nat.le_of_ble_eq_true rfl⟩ dL_law_184 (fun r2 v1 H locs hp2 hW => ?_)
        have hW : sp_Wd D (sp_LX adx dcx nb (sp_skS sk (xs (i + 1)) (xs (i + 2))) (sp_kpS kp (xs (i + 1)) (xs (i + 2))) u1 ++ sp_LY ady dcy nb (sp_skS sk (xs (i + 1)) (xs (i + 2))) (sp_kpS kp (xs (i + 1)) (xs (i + 2))) v1) (fun q => s.heap.size ≤ q) s.heap H locs := hW
        refine lv_icmp_eq (tgt := 435) hx hb dL_law_187 (by decide) (fun ce => ?_) (fun ce => ?_)
        · skip
          refine lv_iinc (v := nI (i + 4)) (lv' := [(3, .int (nI (i + 4))), (0, .ref (b)), (1, .ref (adx 0)), (2, .ref (ady 0))]) hx hb dL_law_435 hl (k := 3) rfl (nI_add i 4) (by decide) rfl (fun ls hl => ?_)
          refine lv_goto (tgt := 18) hx hb dL_law_438 (by decide) ?_
          exact ih (i + 4) nb (sp_skS sk (xs (i + 1)) (xs (i + 2))) (sp_kpS kp (xs (i + 1)) (xs (i + 2))) u1 v1 (by omega) (by omega) (sp_skS_ok hok _ _) (sp_KP_S hok hkp _ _) (hp1.2) (hp2.2) _ _ _ hW (lv_sub hl [1, 2, 3, 0] rfl)
        · skip
          exact absurd (sp_QB.uni hp1.1 hp2.1) ce
      · skip
        refine lv_tableIn (off := 160) (tgt := 192) hx hb dL_law_32 (by decide) (by decide) (by decide) (by decide) ?_
        refine lv_aload_n hx hb dL_law_192 rfl (lv_at hl 1 rfl) ?_
        refine lv_aload_n hx hb dL_law_193 rfl (lv_at hl 0 rfl) ?_
        refine lv_iload_n hx hb dL_law_194 rfl (lv_at hl 3 rfl) ?_
        refine lv_iconst (v := nI 1) hx hb dL_law_195 (by decide) ?_
        refine lv_iadd hx hb dL_law_196 ?_
        refine sp_top (y := nI (i + 1)) (nI_add _ _) ?_
        refine sp_sld hx hb hX hbl hbA hW (k := i + 1) (by omega) (by omega) dL_law_197 ?_
        refine lv_aload_n hx hb dL_law_198 rfl (lv_at hl 0 rfl) ?_
        refine lv_iload_n hx hb dL_law_199 rfl (lv_at hl 3 rfl) ?_
        refine lv_iconst (v := nI 2) hx hb dL_law_200 (by decide) ?_
        refine lv_iadd hx hb dL_law_201 ?_
        refine sp_top (y := nI (i + 2)) (nI_add _ _) ?_
        refine sp_sld hx hb hX hbl hbA hW (k := i + 2) (by omega) (by omega) dL_law_202 ?_
        refine sp_lcI (own := R_law) (wc := sp_LX adx dcx nb sk kp u) (wr := sp_LY ady dcy nb sk kp v) (n := 2) (rest := []) hx hb hml hown hts hKx hW [0, 1, 2, 3, 4, 5] [6, 7, 8, 9, 10, 11] rfl rfl rfl (by decide) (by decide) (by decide) (metX0_drop l D adx dcx nb sk hok kp hkp _ _ _ _ _ _ hkn (xs (i + 1)) (xs (i + 2))) rfl q89 q90 q91 q30 q92 rfl rfl rfl (by decide +kernel) ⟨Nat.le_of_ble_eq_true rfl, Nat.le_of_ble_eq_true rfl⟩ rfl hl rfl (Nat.le_of_ble_eq_true rfl) ⟨Nat.le_of_ble_eq_true rfl, Nat.le_of_ble_eq_true rfl⟩ dL_law_203 (fun r1 u1 H locs hp1 hW => ?_)
        have hW : sp_Wd D (sp_LY ady dcy nb sk kp v ++ sp_LX adx dcx nb sk (sp_kpD nb sk kp (xs (i + 1)) (xs (i + 2))) u1) (fun q => s.heap.size ≤ q) s.heap H locs := hW
        refine lv_aload_n hx hb dL_law_206 rfl (lv_at hl 2 rfl) ?_
        refine lv_aload_n hx hb dL_law_207 rfl (lv_at hl 0 rfl) ?_
        refine lv_iload_n hx hb dL_law_208 rfl (lv_at hl 3 rfl) ?_
        refine lv_iconst (v := nI 1) hx hb dL_law_209 (by decide) ?_
        refine lv_iadd hx hb dL_law_210 ?_
        refine sp_top (y := nI (i + 1)) (nI_add _ _) ?_
        refine sp_sld hx hb hX hbl hbA hW (k := i + 1) (by omega) (by omega) dL_law_211 ?_
        refine lv_aload_n hx hb dL_law_212 rfl (lv_at hl 0 rfl) ?_
        refine lv_iload_n hx hb dL_law_213 rfl (lv_at hl 3 rfl) ?_
        refine lv_iconst (v := nI 2) hx hb dL_law_214 (by decide) ?_
        refine lv_iadd hx hb dL_law_215 ?_
        refine sp_top (y := nI (i + 2)) (nI_add _ _) ?_
        refine sp_sld hx hb hX hbl hbA hW (k := i + 2) (by omega) (by omega) dL_law_216 ?_
        refine sp_lcI (own := R_law) (wc := sp_LY ady dcy nb sk kp v) (wr := sp_LX adx dcx nb sk (sp_kpD nb sk kp (xs (i + 1)) (xs (i + 2))) u1) (n := 2) (rest := [.int r1]) hx hb hml hown hts hKy hW [0, 1, 2, 3, 4, 5] [6, 7, 8, 9, 10, 11] rfl rfl rfl (by decide) (by decide) (by decide) (metX1_drop l D ady dcy nb sk hok kp hkp _ _ _ _ hkf (xs (i + 1)) (xs (i + 2))) rfl q227 q228 q229 q31 q230 rfl rfl rfl (by decide +kernel) ⟨Nat.le_of_ble_eq_true rfl, Nat.le_of_ble_eq_true rfl⟩ rfl hl rfl (Nat.le_of_ble_eq_true rfl) ⟨Nat.le_of_ble_eq_true rfl, Nat.le_of_ble_eq_true rfl⟩ dL_law_217 (fun r2 v1 H locs hp2 hW => ?_)
        have hW : sp_Wd D (sp_LX adx dcx nb sk (sp_kpD nb sk kp (xs (i + 1)) (xs (i + 2))) u1 ++ sp_LY ady dcy nb sk (sp_kpD nb sk kp (xs (i + 1)) (xs (i + 2))) v1) (fun q => s.heap.size ≤ q) s.heap H locs := hW
        refine lv_icmp_eq (tgt := 435) hx hb dL_law_220 (by decide) (fun ce => ?_) (fun ce => ?_)
        · skip
          refine lv_iinc (v := nI (i + 4)) (lv' := [(3, .int (nI (i + 4))), (0, .ref (b)), (1, .ref (adx 0)), (2, .ref (ady 0))]) hx hb dL_law_435 hl (k := 3) rfl (nI_add i 4) (by decide) rfl (fun ls hl => ?_)
          refine lv_goto (tgt := 18) hx hb dL_law_438 (by decide) ?_
          exact ih (i + 4) nb sk (sp_kpD nb sk kp (xs (i + 1)) (xs (i + 2))) u1 v1 (by omega) (by omega) hok (sp_KP_D hok hkp _ _) (hp1.2) (hp2.2) _ _ _ hW (lv_sub hl [1, 2, 3, 0] rfl)
        · skip
          exact absurd (sp_QV.uni hp1.1 hp2.1) ce
      · skip
        refine lv_tableIn (off := 193) (tgt := 225) hx hb dL_law_32 (by decide) (by decide) (by decide) (by decide) ?_
        refine lv_aload_n hx hb dL_law_225 rfl (lv_at hl 1 rfl) ?_
        refine sp_lcI (own := R_law) (wc := sp_LX adx dcx nb sk kp u) (wr := sp_LY ady dcy nb sk kp v) (n := 0) (rest := []) hx hb hml hown hts hKx hW [0, 1, 2, 3, 4, 5] [6, 7, 8, 9, 10, 11] rfl rfl rfl (by decide) (by decide) (by decide) (metX0_state l D adx dcx nb sk hok kp hkp _ _ _ _ _ _ hkn ) rfl q109 q110 q111 q30 q112 rfl rfl rfl (by decide +kernel) ⟨Nat.le_of_ble_eq_true rfl, Nat.le_of_ble_eq_true rfl⟩ rfl hl rfl (Nat.le_of_ble_eq_true rfl) ⟨Nat.le_of_ble_eq_true rfl, Nat.le_of_ble_eq_true rfl⟩ dL_law_226 (fun r1 u1 H locs hp1 hW => ?_)
        have hW : sp_Wd D (sp_LY ady dcy nb sk kp v ++ sp_LX adx dcx nb sk kp u1) (fun q => s.heap.size ≤ q) s.heap H locs := hW
        refine lv_aload_n hx hb dL_law_229 rfl (lv_at hl 2 rfl) ?_
        refine sp_lcI (own := R_law) (wc := sp_LY ady dcy nb sk kp v) (wr := sp_LX adx dcx nb sk kp u1) (n := 0) (rest := [.int r1]) hx hb hml hown hts hKy hW [0, 1, 2, 3, 4, 5] [6, 7, 8, 9, 10, 11] rfl rfl rfl (by decide) (by decide) (by decide) (metX1_state l D ady dcy nb sk hok kp hkp _ _ _ _ hkf ) rfl q247 q248 q249 q31 q250 rfl rfl rfl (by decide +kernel) ⟨Nat.le_of_ble_eq_true rfl, Nat.le_of_ble_eq_true rfl⟩ rfl hl rfl (Nat.le_of_ble_eq_true rfl) ⟨Nat.le_of_ble_eq_true rfl, Nat.le_of_ble_eq_true rfl⟩ dL_law_230 (fun r2 v1 H locs hp2 hW => ?_)
        have hW : sp_Wd D (sp_LX adx dcx nb sk kp u1 ++ sp_LY ady dcy nb sk kp v1) (fun q => s.heap.size ≤ q) s.heap H locs := hW
        refine lv_icmp_eq (tgt := 435) hx hb dL_law_233 (by decide) (fun ce => ?_) (fun ce => ?_)
        · skip
          refine lv_iinc (v := nI (i + 4)) (lv' := [(3, .int (nI (i + 4))), (0, .ref (b)), (1, .ref (adx 0)), (2, .ref (ady 0))]) hx hb dL_law_435 hl (k := 3) rfl (nI_add i 4) (by decide) rfl (fun ls hl => ?_)
          refine lv_goto (tgt := 18) hx hb dL_law_438 (by decide) ?_
          exact ih (i + 4) nb sk kp u1 v1 (by omega) (by omega) hok hkp (hp1.2) (hp2.2) _ _ _ hW (lv_sub hl [1, 2, 3, 0] rfl)
        · skip
          exact absurd (hp1.1.trans hp2.1.symm) ce
      · skip
        refine lv_tableIn (off := 206) (tgt := 238) hx hb dL_law_32 (by decide) (by decide) (by decide) (by decide) ?_
        refine lv_aload_n hx hb dL_law_238 rfl (lv_at hl 1 rfl) ?_
        refine lv_aload_n hx hb dL_law_239 rfl (lv_at hl 0 rfl) ?_
        refine lv_iload_n hx hb dL_law_240 rfl (lv_at hl 3 rfl) ?_
        refine lv_iconst (v := nI 1) hx hb dL_law_241 (by decide) ?_
        refine lv_iadd hx hb dL_law_242 ?_
        refine sp_top (y := nI (i + 1)) (nI_add _ _) ?_
        refine sp_sld hx hb hX hbl hbA hW (k := i + 1) (by omega) (by omega) dL_law_243 ?_
        refine sp_lcI (own := R_law) (wc := sp_LX adx dcx nb sk kp u) (wr := sp_LY ady dcy nb sk kp v) (n := 1) (rest := []) hx hb hml hown hts hKx hW [0, 1, 2, 3, 4, 5] [6, 7, 8, 9, 10, 11] rfl rfl rfl (by decide) (by decide) (by decide) (metX0_set l D adx dcx nb sk hok kp hkp _ _ _ _ _ _ hkn (xs (i + 1))) rfl q113 q114 q115 q30 q116 rfl rfl rfl (by decide +kernel) ⟨Nat.le_of_ble_eq_true rfl, Nat.le_of_ble_eq_true rfl⟩ rfl hl rfl (Nat.le_of_ble_eq_true rfl) ⟨Nat.le_of_ble_eq_true rfl, Nat.le_of_ble_eq_true rfl⟩ dL_law_244 (fun r1 u1 H locs hp1 hW => ?_)
        have hW : sp_Wd D (sp_LY ady dcy nb sk kp v ++ sp_LX adx dcx nb sk (sp_kpT nb sk kp (xs (i + 1))) u1) (fun q => s.heap.size ≤ q) s.heap H locs := hW
        refine lv_aload_n hx hb dL_law_247 rfl (lv_at hl 2 rfl) ?_
        refine lv_aload_n hx hb dL_law_248 rfl (lv_at hl 0 rfl) ?_
        refine lv_iload_n hx hb dL_law_249 rfl (lv_at hl 3 rfl) ?_
        refine lv_iconst (v := nI 1) hx hb dL_law_250 (by decide) ?_
        refine lv_iadd hx hb dL_law_251 ?_
        refine sp_top (y := nI (i + 1)) (nI_add _ _) ?_
        refine sp_sld hx hb hX hbl hbA hW (k := i + 1) (by omega) (by omega) dL_law_252 ?_
        refine sp_lcI (own := R_law) (wc := sp_LY ady dcy nb sk kp v) (wr := sp_LX adx dcx nb sk (sp_kpT nb sk kp (xs (i + 1))) u1) (n := 1) (rest := [.int r1]) hx hb hml hown hts hKy hW [0, 1, 2, 3, 4, 5] [6, 7, 8, 9, 10, 11] rfl rfl rfl (by decide) (by decide) (by decide) (metX1_set l D ady dcy nb sk hok kp hkp _ _ _ _ hkf (xs (i + 1))) rfl q251 q252 q253 q31 q254 rfl rfl rfl (by decide +kernel) ⟨Nat.le_of_ble_eq_true rfl, Nat.le_of_ble_eq_true rfl⟩ rfl hl rfl (Nat.le_of_ble_eq_true rfl) ⟨Nat.le_of_ble_eq_true rfl, Nat.le_of_ble_eq_true rfl⟩ dL_law_253 (fun r2 v1 H locs hp2 hW => ?_)
        have hW : sp_Wd D (sp_LX adx dcx nb sk (sp_kpT nb sk kp (xs (i + 1))) u1 ++ sp_LY ady dcy nb sk (sp_kpT nb sk kp (xs (i + 1))) v1) (fun q => s.heap.size ≤ q) s.heap H locs := hW
        refine lv_icmp_eq (tgt := 435) hx hb dL_law_256 (by decide) (fun ce => ?_) (fun ce => ?_)
        · skip
          refine lv_iinc (v := nI (i + 4)) (lv' := [(3, .int (nI (i + 4))), (0, .ref (b)), (1, .ref (adx 0)), (2, .ref (ady 0))]) hx hb dL_law_435 hl (k := 3) rfl (nI_add i 4) (by decide) rfl (fun ls hl => ?_)
          refine lv_goto (tgt := 18) hx hb dL_law_438 (by decide) ?_
          exact ih (i + 4) nb sk (sp_kpT nb sk kp (xs (i + 1))) u1 v1 (by omega) (by omega) hok (sp_KP_T hkp _) (hp1.2) (hp2.2) _ _ _ hW (lv_sub hl [1, 2, 3, 0] rfl)
        · skip
          exact absurd (sp_QB.uni hp1.1 hp2.1) ce
      · skip
        refine lv_tableIn (off := 229) (tgt := 261) hx hb dL_law_32 (by decide) (by decide) (by decide) (by decide) ?_
        refine lv_aload_n hx hb dL_law_261 rfl (lv_at hl 1 rfl) ?_
        refine lv_aload_n hx hb dL_law_262 rfl (lv_at hl 0 rfl) ?_
        refine lv_iload_n hx hb dL_law_263 rfl (lv_at hl 3 rfl) ?_
        refine lv_iconst (v := nI 1) hx hb dL_law_264 (by decide) ?_
        refine lv_iadd hx hb dL_law_265 ?_
        refine sp_top (y := nI (i + 1)) (nI_add _ _) ?_
        refine sp_sld hx hb hX hbl hbA hW (k := i + 1) (by omega) (by omega) dL_law_266 ?_
        refine sp_lcI (own := R_law) (wc := sp_LX adx dcx nb sk kp u) (wr := sp_LY ady dcy nb sk kp v) (n := 1) (rest := []) hx hb hml hown hts hKx hW [0, 1, 2, 3, 4, 5] [6, 7, 8, 9, 10, 11] rfl rfl rfl (by decide) (by decide) (by decide) (metX0_degree l D adx dcx nb sk hok kp hkp _ _ _ _ _ _ hkn (xs (i + 1))) rfl q121 q122 q123 q30 q124 rfl rfl rfl (by decide +kernel) ⟨Nat.le_of_ble_eq_true rfl, Nat.le_of_ble_eq_true rfl⟩ rfl hl rfl (Nat.le_of_ble_eq_true rfl) ⟨Nat.le_of_ble_eq_true rfl, Nat.le_of_ble_eq_true rfl⟩ dL_law_267 (fun r1 u1 H locs hp1 hW => ?_)
        have hW : sp_Wd D (sp_LY ady dcy nb sk kp v ++ sp_LX adx dcx nb sk kp u1) (fun q => s.heap.size ≤ q) s.heap H locs := hW
        refine lv_aload_n hx hb dL_law_270 rfl (lv_at hl 2 rfl) ?_
        refine lv_aload_n hx hb dL_law_271 rfl (lv_at hl 0 rfl) ?_
        refine lv_iload_n hx hb dL_law_272 rfl (lv_at hl 3 rfl) ?_
        refine lv_iconst (v := nI 1) hx hb dL_law_273 (by decide) ?_
        refine lv_iadd hx hb dL_law_274 ?_
        refine sp_top (y := nI (i + 1)) (nI_add _ _) ?_
        refine sp_sld hx hb hX hbl hbA hW (k := i + 1) (by omega) (by omega) dL_law_275 ?_
        refine sp_lcI (own := R_law) (wc := sp_LY ady dcy nb sk kp v) (wr := sp_LX adx dcx nb sk kp u1) (n := 1) (rest := [.int r1]) hx hb hml hown hts hKy hW [0, 1, 2, 3, 4, 5] [6, 7, 8, 9, 10, 11] rfl rfl rfl (by decide) (by decide) (by decide) (metX1_degree l D ady dcy nb sk hok kp hkp _ _ _ _ hkf (xs (i + 1))) rfl q263 q264 q265 q31 q266 rfl rfl rfl (by decide +kernel) ⟨Nat.le_of_ble_eq_true rfl, Nat.le_of_ble_eq_true rfl⟩ rfl hl rfl (Nat.le_of_ble_eq_true rfl) ⟨Nat.le_of_ble_eq_true rfl, Nat.le_of_ble_eq_true rfl⟩ dL_law_276 (fun r2 v1 H locs hp2 hW => ?_)
        have hW : sp_Wd D (sp_LX adx dcx nb sk kp u1 ++ sp_LY ady dcy nb sk kp v1) (fun q => s.heap.size ≤ q) s.heap H locs := hW
        refine lv_icmp_eq (tgt := 435) hx hb dL_law_279 (by decide) (fun ce => ?_) (fun ce => ?_)
        · skip
          refine lv_iinc (v := nI (i + 4)) (lv' := [(3, .int (nI (i + 4))), (0, .ref (b)), (1, .ref (adx 0)), (2, .ref (ady 0))]) hx hb dL_law_435 hl (k := 3) rfl (nI_add i 4) (by decide) rfl (fun ls hl => ?_)
          refine lv_goto (tgt := 18) hx hb dL_law_438 (by decide) ?_
          exact ih (i + 4) nb sk kp u1 v1 (by omega) (by omega) hok hkp (hp1.2) (hp2.2) _ _ _ hW (lv_sub hl [1, 2, 3, 0] rfl)
        · skip
          exact absurd (sp_QV.uni hp1.1 hp2.1) ce
      · skip
        refine lv_tableIn (off := 252) (tgt := 284) hx hb dL_law_32 (by decide) (by decide) (by decide) (by decide) ?_
        refine lv_aload_n hx hb dL_law_284 rfl (lv_at hl 1 rfl) ?_
        refine lv_aload_n hx hb dL_law_285 rfl (lv_at hl 0 rfl) ?_
        refine lv_iload_n hx hb dL_law_286 rfl (lv_at hl 3 rfl) ?_
        refine lv_iconst (v := nI 1) hx hb dL_law_287 (by decide) ?_
        refine lv_iadd hx hb dL_law_288 ?_
        refine sp_top (y := nI (i + 1)) (nI_add _ _) ?_
        refine sp_sld hx hb hX hbl hbA hW (k := i + 1) (by omega) (by omega) dL_law_289 ?_
        refine sp_lcI (own := R_law) (wc := sp_LX adx dcx nb sk kp u) (wr := sp_LY ady dcy nb sk kp v) (n := 1) (rest := []) hx hb hml hown hts hKx hW [0, 1, 2, 3, 4, 5] [6, 7, 8, 9, 10, 11] rfl rfl rfl (by decide) (by decide) (by decide) (metX0_recurrent l D adx dcx nb sk hok _ _ _ _ _ _ _ _ (xs (i + 1))) rfl q125 q126 q127 q30 q128 rfl rfl rfl (by decide +kernel) ⟨Nat.le_of_ble_eq_true rfl, Nat.le_of_ble_eq_true rfl⟩ rfl hl rfl (Nat.le_of_ble_eq_true rfl) ⟨Nat.le_of_ble_eq_true rfl, Nat.le_of_ble_eq_true rfl⟩ dL_law_290 (fun r1 u1 H locs hp1 hW => ?_)
        have hW : sp_Wd D (sp_LY ady dcy nb sk kp v ++ sp_LX adx dcx nb sk kp u) (fun q => s.heap.size ≤ q) s.heap H locs := hW
        refine lv_aload_n hx hb dL_law_293 rfl (lv_at hl 2 rfl) ?_
        refine lv_aload_n hx hb dL_law_294 rfl (lv_at hl 0 rfl) ?_
        refine lv_iload_n hx hb dL_law_295 rfl (lv_at hl 3 rfl) ?_
        refine lv_iconst (v := nI 1) hx hb dL_law_296 (by decide) ?_
        refine lv_iadd hx hb dL_law_297 ?_
        refine sp_top (y := nI (i + 1)) (nI_add _ _) ?_
        refine sp_sld hx hb hX hbl hbA hW (k := i + 1) (by omega) (by omega) dL_law_298 ?_
        refine sp_lcI (own := R_law) (wc := sp_LY ady dcy nb sk kp v) (wr := sp_LX adx dcx nb sk kp u) (n := 1) (rest := [.int r1]) hx hb hml hown hts hKy hW [0, 1, 2, 3, 4, 5] [6, 7, 8, 9, 10, 11] rfl rfl rfl (by decide) (by decide) (by decide) (metX1_recurrent l D ady dcy nb sk hok kp hkp _ _ _ _ hkf (xs (i + 1))) rfl q267 q268 q269 q31 q270 rfl rfl rfl (by decide +kernel) ⟨Nat.le_of_ble_eq_true rfl, Nat.le_of_ble_eq_true rfl⟩ rfl hl rfl (Nat.le_of_ble_eq_true rfl) ⟨Nat.le_of_ble_eq_true rfl, Nat.le_of_ble_eq_true rfl⟩ dL_law_299 (fun r2 v1 H locs hp2 hW => ?_)
        have hW : sp_Wd D (sp_LX adx dcx nb sk kp u ++ sp_LY ady dcy nb sk kp v1) (fun q => s.heap.size ≤ q) s.heap H locs := hW
        refine lv_icmp_eq (tgt := 435) hx hb dL_law_302 (by decide) (fun ce => ?_) (fun ce => ?_)
        · skip
          refine lv_iinc (v := nI (i + 4)) (lv' := [(3, .int (nI (i + 4))), (0, .ref (b)), (1, .ref (adx 0)), (2, .ref (ady 0))]) hx hb dL_law_435 hl (k := 3) rfl (nI_add i 4) (by decide) rfl (fun ls hl => ?_)
          refine lv_goto (tgt := 18) hx hb dL_law_438 (by decide) ?_
          exact ih (i + 4) nb sk kp u v1 (by omega) (by omega) hok hkp (hkn) (hp2.2) _ _ _ hW (lv_sub hl [1, 2, 3, 0] rfl)
        · skip
          exact absurd (sp_QB.uni hp1 hp2.1) ce
      · skip
        refine lv_tableIn (off := 275) (tgt := 307) hx hb dL_law_32 (by decide) (by decide) (by decide) (by decide) ?_
        refine lv_aload_n hx hb dL_law_307 rfl (lv_at hl 1 rfl) ?_
        refine sp_lcI (own := R_law) (wc := sp_LX adx dcx nb sk kp u) (wr := sp_LY ady dcy nb sk kp v) (n := 0) (rest := []) hx hb hml hown hts hKx hW [0, 1, 2, 3, 4, 5] [6, 7, 8, 9, 10, 11] rfl rfl rfl (by decide) (by decide) (by decide) (metX0_order l D adx dcx nb sk hok kp hkp _ _ _ _ _ _ hkn ) rfl q133 q134 q135 q30 q136 rfl rfl rfl (by decide +kernel) ⟨Nat.le_of_ble_eq_true rfl, Nat.le_of_ble_eq_true rfl⟩ rfl hl rfl (Nat.le_of_ble_eq_true rfl) ⟨Nat.le_of_ble_eq_true rfl, Nat.le_of_ble_eq_true rfl⟩ dL_law_308 (fun r1 u1 H locs hp1 hW => ?_)
        have hW : sp_Wd D (sp_LY ady dcy nb sk kp v ++ sp_LX adx dcx nb sk kp u1) (fun q => s.heap.size ≤ q) s.heap H locs := hW
        refine lv_aload_n hx hb dL_law_311 rfl (lv_at hl 2 rfl) ?_
        refine sp_lcI (own := R_law) (wc := sp_LY ady dcy nb sk kp v) (wr := sp_LX adx dcx nb sk kp u1) (n := 0) (rest := [.int r1]) hx hb hml hown hts hKy hW [0, 1, 2, 3, 4, 5] [6, 7, 8, 9, 10, 11] rfl rfl rfl (by decide) (by decide) (by decide) (metX1_order l D ady dcy nb sk hok kp hkp _ _ _ _ hkf ) rfl q295 q296 q297 q31 q298 rfl rfl rfl (by decide +kernel) ⟨Nat.le_of_ble_eq_true rfl, Nat.le_of_ble_eq_true rfl⟩ rfl hl rfl (Nat.le_of_ble_eq_true rfl) ⟨Nat.le_of_ble_eq_true rfl, Nat.le_of_ble_eq_true rfl⟩ dL_law_312 (fun r2 v1 H locs hp2 hW => ?_)
        have hW : sp_Wd D (sp_LX adx dcx nb sk kp u1 ++ sp_LY ady dcy nb sk kp v1) (fun q => s.heap.size ≤ q) s.heap H locs := hW
        refine lv_icmp_eq (tgt := 435) hx hb dL_law_315 (by decide) (fun ce => ?_) (fun ce => ?_)
        · skip
          refine lv_iinc (v := nI (i + 4)) (lv' := [(3, .int (nI (i + 4))), (0, .ref (b)), (1, .ref (adx 0)), (2, .ref (ady 0))]) hx hb dL_law_435 hl (k := 3) rfl (nI_add i 4) (by decide) rfl (fun ls hl => ?_)
          refine lv_goto (tgt := 18) hx hb dL_law_438 (by decide) ?_
          exact ih (i + 4) nb sk kp u1 v1 (by omega) (by omega) hok hkp (hp1.2) (hp2.2) _ _ _ hW (lv_sub hl [1, 2, 3, 0] rfl)
        · skip
          exact absurd (hp1.1.trans hp2.1.symm) ce
      · skip
        refine lv_tableIn (off := 288) (tgt := 320) hx hb dL_law_32 (by decide) (by decide) (by decide) (by decide) ?_
        refine lv_aload_n hx hb dL_law_320 rfl (lv_at hl 1 rfl) ?_
        refine sp_lcI (own := R_law) (wc := sp_LX adx dcx nb sk kp u) (wr := sp_LY ady dcy nb sk kp v) (n := 0) (rest := []) hx hb hml hown hts hKx hW [0, 1, 2, 3, 4, 5] [6, 7, 8, 9, 10, 11] rfl rfl rfl (by decide) (by decide) (by decide) (metX0_neutral l D adx dcx nb sk hok kp hkp _ _ _ _ _ _ hkn ) rfl q153 q154 q155 q30 q156 rfl rfl rfl (by decide +kernel) ⟨Nat.le_of_ble_eq_true rfl, Nat.le_of_ble_eq_true rfl⟩ rfl hl rfl (Nat.le_of_ble_eq_true rfl) ⟨Nat.le_of_ble_eq_true rfl, Nat.le_of_ble_eq_true rfl⟩ dL_law_321 (fun r1 u1 H locs hp1 hW => ?_)
        have hW : sp_Wd D (sp_LY ady dcy nb sk kp v ++ sp_LX adx dcx nb sk kp u1) (fun q => s.heap.size ≤ q) s.heap H locs := hW
        refine lv_aload_n hx hb dL_law_324 rfl (lv_at hl 2 rfl) ?_
        refine sp_lcI (own := R_law) (wc := sp_LY ady dcy nb sk kp v) (wr := sp_LX adx dcx nb sk kp u1) (n := 0) (rest := [.int r1]) hx hb hml hown hts hKy hW [0, 1, 2, 3, 4, 5] [6, 7, 8, 9, 10, 11] rfl rfl rfl (by decide) (by decide) (by decide) (metX1_neutral l D ady dcy nb sk hok kp hkp _ _ _ _ hkf ) rfl q299 q300 q301 q31 q302 rfl rfl rfl (by decide +kernel) ⟨Nat.le_of_ble_eq_true rfl, Nat.le_of_ble_eq_true rfl⟩ rfl hl rfl (Nat.le_of_ble_eq_true rfl) ⟨Nat.le_of_ble_eq_true rfl, Nat.le_of_ble_eq_true rfl⟩ dL_law_325 (fun r2 v1 H locs hp2 hW => ?_)
        have hW : sp_Wd D (sp_LX adx dcx nb sk kp u1 ++ sp_LY ady dcy nb sk kp v1) (fun q => s.heap.size ≤ q) s.heap H locs := hW
        refine lv_icmp_eq (tgt := 435) hx hb dL_law_328 (by decide) (fun ce => ?_) (fun ce => ?_)
        · skip
          refine lv_iinc (v := nI (i + 4)) (lv' := [(3, .int (nI (i + 4))), (0, .ref (b)), (1, .ref (adx 0)), (2, .ref (ady 0))]) hx hb dL_law_435 hl (k := 3) rfl (nI_add i 4) (by decide) rfl (fun ls hl => ?_)
          refine lv_goto (tgt := 18) hx hb dL_law_438 (by decide) ?_
          exact ih (i + 4) nb sk kp u1 v1 (by omega) (by omega) hok hkp (hp1.2) (hp2.2) _ _ _ hW (lv_sub hl [1, 2, 3, 0] rfl)
        · skip
          exact absurd (hp1.1.trans hp2.1.symm) ce
      · skip
        refine lv_tableIn (off := 301) (tgt := 333) hx hb dL_law_32 (by decide) (by decide) (by decide) (by decide) ?_
        refine lv_aload_n hx hb dL_law_333 rfl (lv_at hl 1 rfl) ?_
        refine lv_aload_n hx hb dL_law_334 rfl (lv_at hl 0 rfl) ?_
        refine lv_iload_n hx hb dL_law_335 rfl (lv_at hl 3 rfl) ?_
        refine lv_iconst (v := nI 1) hx hb dL_law_336 (by decide) ?_
        refine lv_iadd hx hb dL_law_337 ?_
        refine sp_top (y := nI (i + 1)) (nI_add _ _) ?_
        refine sp_sld hx hb hX hbl hbA hW (k := i + 1) (by omega) (by omega) dL_law_338 ?_
        refine sp_lcI (own := R_law) (wc := sp_LX adx dcx nb sk kp u) (wr := sp_LY ady dcy nb sk kp v) (n := 1) (rest := []) hx hb hml hown hts hKx hW [0, 1, 2, 3, 4, 5] [6, 7, 8, 9, 10, 11] rfl rfl rfl (by decide) (by decide) (by decide) (metX0_opposite l D adx dcx nb sk hok kp hkp _ _ _ _ _ _ hkn (xs (i + 1))) rfl q157 q158 q159 q30 q160 rfl rfl rfl (by decide +kernel) ⟨Nat.le_of_ble_eq_true rfl, Nat.le_of_ble_eq_true rfl⟩ rfl hl rfl (Nat.le_of_ble_eq_true rfl) ⟨Nat.le_of_ble_eq_true rfl, Nat.le_of_ble_eq_true rfl⟩ dL_law_339 (fun r1 u1 H locs hp1 hW => ?_)
        have hW : sp_Wd D (sp_LY ady dcy nb sk kp v ++ sp_LX adx dcx nb sk kp u1) (fun q => s.heap.size ≤ q) s.heap H locs := hW
        refine lv_aload_n hx hb dL_law_342 rfl (lv_at hl 2 rfl) ?_
        refine lv_aload_n hx hb dL_law_343 rfl (lv_at hl 0 rfl) ?_
        refine lv_iload_n hx hb dL_law_344 rfl (lv_at hl 3 rfl) ?_
        refine lv_iconst (v := nI 1) hx hb dL_law_345 (by decide) ?_
        refine lv_iadd hx hb dL_law_346 ?_
        refine sp_top (y := nI (i + 1)) (nI_add _ _) ?_
        refine sp_sld hx hb hX hbl hbA hW (k := i + 1) (by omega) (by omega) dL_law_347 ?_
        refine sp_lcI (own := R_law) (wc := sp_LY ady dcy nb sk kp v) (wr := sp_LX adx dcx nb sk kp u1) (n := 1) (rest := [.int r1]) hx hb hml hown hts hKy hW [0, 1, 2, 3, 4, 5] [6, 7, 8, 9, 10, 11] rfl rfl rfl (by decide) (by decide) (by decide) (metX1_opposite l D ady dcy nb sk hok kp hkp _ _ _ _ hkf (xs (i + 1))) rfl q307 q308 q309 q31 q310 rfl rfl rfl (by decide +kernel) ⟨Nat.le_of_ble_eq_true rfl, Nat.le_of_ble_eq_true rfl⟩ rfl hl rfl (Nat.le_of_ble_eq_true rfl) ⟨Nat.le_of_ble_eq_true rfl, Nat.le_of_ble_eq_true rfl⟩ dL_law_348 (fun r2 v1 H locs hp2 hW => ?_)
        have hW : sp_Wd D (sp_LX adx dcx nb sk kp u1 ++ sp_LY ady dcy nb sk kp v1) (fun q => s.heap.size ≤ q) s.heap H locs := hW
        refine lv_icmp_eq (tgt := 435) hx hb dL_law_351 (by decide) (fun ce => ?_) (fun ce => ?_)
        · skip
          refine lv_iinc (v := nI (i + 4)) (lv' := [(3, .int (nI (i + 4))), (0, .ref (b)), (1, .ref (adx 0)), (2, .ref (ady 0))]) hx hb dL_law_435 hl (k := 3) rfl (nI_add i 4) (by decide) rfl (fun ls hl => ?_)
          refine lv_goto (tgt := 18) hx hb dL_law_438 (by decide) ?_
          exact ih (i + 4) nb sk kp u1 v1 (by omega) (by omega) hok hkp (hp1.2) (hp2.2) _ _ _ hW (lv_sub hl [1, 2, 3, 0] rfl)
        · skip
          exact absurd (sp_QV.uni hp1.1 hp2.1) ce
      · skip
        refine lv_tableIn (off := 324) (tgt := 356) hx hb dL_law_32 (by decide) (by decide) (by decide) (by decide) ?_
        refine lv_aload_n hx hb dL_law_356 rfl (lv_at hl 1 rfl) ?_
        refine lv_aload_n hx hb dL_law_357 rfl (lv_at hl 0 rfl) ?_
        refine lv_iload_n hx hb dL_law_358 rfl (lv_at hl 3 rfl) ?_
        refine lv_iconst (v := nI 1) hx hb dL_law_359 (by decide) ?_
        refine lv_iadd hx hb dL_law_360 ?_
        refine sp_top (y := nI (i + 1)) (nI_add _ _) ?_
        refine sp_sld hx hb hX hbl hbA hW (k := i + 1) (by omega) (by omega) dL_law_361 ?_
        refine lv_aload_n hx hb dL_law_362 rfl (lv_at hl 0 rfl) ?_
        refine lv_iload_n hx hb dL_law_363 rfl (lv_at hl 3 rfl) ?_
        refine lv_iconst (v := nI 2) hx hb dL_law_364 (by decide) ?_
        refine lv_iadd hx hb dL_law_365 ?_
        refine sp_top (y := nI (i + 2)) (nI_add _ _) ?_
        refine sp_sld hx hb hX hbl hbA hW (k := i + 2) (by omega) (by omega) dL_law_366 ?_
        refine sp_lcI (own := R_law) (wc := sp_LX adx dcx nb sk kp u) (wr := sp_LY ady dcy nb sk kp v) (n := 2) (rest := []) hx hb hml hown hts hKx hW [0, 1, 2, 3, 4, 5] [6, 7, 8, 9, 10, 11] rfl rfl rfl (by decide) (by decide) (by decide) (metX0_groupSum l D adx dcx nb sk hok kp hkp _ _ _ _ _ _ hkn (xs (i + 1)) (xs (i + 2))) rfl q162 q163 q164 q30 q165 rfl rfl rfl (by decide +kernel) ⟨Nat.le_of_ble_eq_true rfl, Nat.le_of_ble_eq_true rfl⟩ rfl hl rfl (Nat.le_of_ble_eq_true rfl) ⟨Nat.le_of_ble_eq_true rfl, Nat.le_of_ble_eq_true rfl⟩ dL_law_367 (fun r1 u1 H locs hp1 hW => ?_)
        have hW : sp_Wd D (sp_LY ady dcy nb sk kp v ++ sp_LX adx dcx nb sk kp u1) (fun q => s.heap.size ≤ q) s.heap H locs := hW
        refine lv_aload_n hx hb dL_law_370 rfl (lv_at hl 2 rfl) ?_
        refine lv_aload_n hx hb dL_law_371 rfl (lv_at hl 0 rfl) ?_
        refine lv_iload_n hx hb dL_law_372 rfl (lv_at hl 3 rfl) ?_
        refine lv_iconst (v := nI 1) hx hb dL_law_373 (by decide) ?_
        refine lv_iadd hx hb dL_law_374 ?_
        refine sp_top (y := nI (i + 1)) (nI_add _ _) ?_
        refine sp_sld hx hb hX hbl hbA hW (k := i + 1) (by omega) (by omega) dL_law_375 ?_
        refine lv_aload_n hx hb dL_law_376 rfl (lv_at hl 0 rfl) ?_
        refine lv_iload_n hx hb dL_law_377 rfl (lv_at hl 3 rfl) ?_
        refine lv_iconst (v := nI 2) hx hb dL_law_378 (by decide) ?_
        refine lv_iadd hx hb dL_law_379 ?_
        refine sp_top (y := nI (i + 2)) (nI_add _ _) ?_
        refine sp_sld hx hb hX hbl hbA hW (k := i + 2) (by omega) (by omega) dL_law_380 ?_
        refine sp_lcI (own := R_law) (wc := sp_LY ady dcy nb sk kp v) (wr := sp_LX adx dcx nb sk kp u1) (n := 2) (rest := [.int r1]) hx hb hml hown hts hKy hW [0, 1, 2, 3, 4, 5] [6, 7, 8, 9, 10, 11] rfl rfl rfl (by decide) (by decide) (by decide) (metX1_groupSum l D ady dcy nb sk hok kp hkp _ _ _ _ hkf (xs (i + 1)) (xs (i + 2))) rfl q311 q312 q313 q31 q314 rfl rfl rfl (by decide +kernel) ⟨Nat.le_of_ble_eq_true rfl, Nat.le_of_ble_eq_true rfl⟩ rfl hl rfl (Nat.le_of_ble_eq_true rfl) ⟨Nat.le_of_ble_eq_true rfl, Nat.le_of_ble_eq_true rfl⟩ dL_law_381 (fun r2 v1 H locs hp2 hW => ?_)
        have hW : sp_Wd D (sp_LX adx dcx nb sk kp u1 ++ sp_LY ady dcy nb sk kp v1) (fun q => s.heap.size ≤ q) s.heap H locs := hW
        refine lv_icmp_eq (tgt := 435) hx hb dL_law_384 (by decide) (fun ce => ?_) (fun ce => ?_)
        · skip
          refine lv_iinc (v := nI (i + 4)) (lv' := [(3, .int (nI (i + 4))), (0, .ref (b)), (1, .ref (adx 0)), (2, .ref (ady 0))]) hx hb dL_law_435 hl (k := 3) rfl (nI_add i 4) (by decide) rfl (fun ls hl => ?_)
          refine lv_goto (tgt := 18) hx hb dL_law_438 (by decide) ?_
          exact ih (i + 4) nb sk kp u1 v1 (by omega) (by omega) hok hkp (hp1.2) (hp2.2) _ _ _ hW (lv_sub hl [1, 2, 3, 0] rfl)
        · skip
          exact absurd (sp_QV.uni hp1.1 hp2.1) ce
      · skip
        refine lv_tableIn (off := 357) (tgt := 389) hx hb dL_law_32 (by decide) (by decide) (by decide) (by decide) ?_
        refine lv_aload_n hx hb dL_law_389 rfl (lv_at hl 1 rfl) ?_
        refine lv_aload_n hx hb dL_law_390 rfl (lv_at hl 0 rfl) ?_
        refine lv_iload_n hx hb dL_law_391 rfl (lv_at hl 3 rfl) ?_
        refine lv_iconst (v := nI 1) hx hb dL_law_392 (by decide) ?_
        refine lv_iadd hx hb dL_law_393 ?_
        refine sp_top (y := nI (i + 1)) (nI_add _ _) ?_
        refine sp_sld hx hb hX hbl hbA hW (k := i + 1) (by omega) (by omega) dL_law_394 ?_
        refine sp_lcI (own := R_law) (wc := sp_LX adx dcx nb sk kp u) (wr := sp_LY ady dcy nb sk kp v) (n := 1) (rest := []) hx hb hml hown hts hKx hW [0, 1, 2, 3, 4, 5] [6, 7, 8, 9, 10, 11] rfl rfl rfl (by decide) (by decide) (by decide) (metX0_orderOf l D adx dcx nb sk hok kp hkp _ _ _ _ _ _ hkn (xs (i + 1))) rfl q170 q171 q172 q30 q173 rfl rfl rfl (by decide +kernel) ⟨Nat.le_of_ble_eq_true rfl, Nat.le_of_ble_eq_true rfl⟩ rfl hl rfl (Nat.le_of_ble_eq_true rfl) ⟨Nat.le_of_ble_eq_true rfl, Nat.le_of_ble_eq_true rfl⟩ dL_law_395 (fun r1 u1 H locs hp1 hW => ?_)
        have hW : sp_Wd D (sp_LY ady dcy nb sk kp v ++ sp_LX adx dcx nb sk kp u1) (fun q => s.heap.size ≤ q) s.heap H locs := hW
        refine lv_aload_n hx hb dL_law_398 rfl (lv_at hl 2 rfl) ?_
        refine lv_aload_n hx hb dL_law_399 rfl (lv_at hl 0 rfl) ?_
        refine lv_iload_n hx hb dL_law_400 rfl (lv_at hl 3 rfl) ?_
        refine lv_iconst (v := nI 1) hx hb dL_law_401 (by decide) ?_
        refine lv_iadd hx hb dL_law_402 ?_
        refine sp_top (y := nI (i + 1)) (nI_add _ _) ?_
        refine sp_sld hx hb hX hbl hbA hW (k := i + 1) (by omega) (by omega) dL_law_403 ?_
        refine sp_lcI (own := R_law) (wc := sp_LY ady dcy nb sk kp v) (wr := sp_LX adx dcx nb sk kp u1) (n := 1) (rest := [.int r1]) hx hb hml hown hts hKy hW [0, 1, 2, 3, 4, 5] [6, 7, 8, 9, 10, 11] rfl rfl rfl (by decide) (by decide) (by decide) (metX1_orderOf l D ady dcy nb sk hok kp hkp _ _ _ _ hkf (xs (i + 1))) rfl q315 q316 q317 q31 q318 rfl rfl rfl (by decide +kernel) ⟨Nat.le_of_ble_eq_true rfl, Nat.le_of_ble_eq_true rfl⟩ rfl hl rfl (Nat.le_of_ble_eq_true rfl) ⟨Nat.le_of_ble_eq_true rfl, Nat.le_of_ble_eq_true rfl⟩ dL_law_404 (fun r2 v1 H locs hp2 hW => ?_)
        have hW : sp_Wd D (sp_LX adx dcx nb sk kp u1 ++ sp_LY ady dcy nb sk kp v1) (fun q => s.heap.size ≤ q) s.heap H locs := hW
        refine lv_icmp_eq (tgt := 435) hx hb dL_law_407 (by decide) (fun ce => ?_) (fun ce => ?_)
        · skip
          refine lv_iinc (v := nI (i + 4)) (lv' := [(3, .int (nI (i + 4))), (0, .ref (b)), (1, .ref (adx 0)), (2, .ref (ady 0))]) hx hb dL_law_435 hl (k := 3) rfl (nI_add i 4) (by decide) rfl (fun ls hl => ?_)
          refine lv_goto (tgt := 18) hx hb dL_law_438 (by decide) ?_
          exact ih (i + 4) nb sk kp u1 v1 (by omega) (by omega) hok hkp (hp1.2) (hp2.2) _ _ _ hW (lv_sub hl [1, 2, 3, 0] rfl)
        · skip
          exact absurd (sp_QV.uni hp1.1 hp2.1) ce
      · skip
        refine lv_tableIn (off := 380) (tgt := 412) hx hb dL_law_32 (by decide) (by decide) (by decide) (by decide) ?_
        refine lv_aload_n hx hb dL_law_412 rfl (lv_at hl 1 rfl) ?_
        refine lv_aload_n hx hb dL_law_413 rfl (lv_at hl 0 rfl) ?_
        refine lv_iload_n hx hb dL_law_414 rfl (lv_at hl 3 rfl) ?_
        refine lv_iconst (v := nI 1) hx hb dL_law_415 (by decide) ?_
        refine lv_iadd hx hb dL_law_416 ?_
        refine sp_top (y := nI (i + 1)) (nI_add _ _) ?_
        refine sp_sld hx hb hX hbl hbA hW (k := i + 1) (by omega) (by omega) dL_law_417 ?_
        refine sp_lcI (own := R_law) (wc := sp_LX adx dcx nb sk kp u) (wr := sp_LY ady dcy nb sk kp v) (n := 1) (rest := []) hx hb hml hown hts hKx hW [0, 1, 2, 3, 4, 5] [6, 7, 8, 9, 10, 11] rfl rfl rfl (by decide) (by decide) (by decide) (metX0_recurrentOf l D adx dcx nb sk hok kp hkp _ _ _ _ _ _ hkn (xs (i + 1))) rfl q178 q179 q180 q30 q181 rfl rfl rfl (by decide +kernel) ⟨Nat.le_of_ble_eq_true rfl, Nat.le_of_ble_eq_true rfl⟩ rfl hl rfl (Nat.le_of_ble_eq_true rfl) ⟨Nat.le_of_ble_eq_true rfl, Nat.le_of_ble_eq_true rfl⟩ dL_law_418 (fun r1 u1 H locs hp1 hW => ?_)
        have hW : sp_Wd D (sp_LY ady dcy nb sk kp v ++ sp_LX adx dcx nb sk kp u1) (fun q => s.heap.size ≤ q) s.heap H locs := hW
        refine lv_aload_n hx hb dL_law_421 rfl (lv_at hl 2 rfl) ?_
        refine lv_aload_n hx hb dL_law_422 rfl (lv_at hl 0 rfl) ?_
        refine lv_iload_n hx hb dL_law_423 rfl (lv_at hl 3 rfl) ?_
        refine lv_iconst (v := nI 1) hx hb dL_law_424 (by decide) ?_
        refine lv_iadd hx hb dL_law_425 ?_
        refine sp_top (y := nI (i + 1)) (nI_add _ _) ?_
        refine sp_sld hx hb hX hbl hbA hW (k := i + 1) (by omega) (by omega) dL_law_426 ?_
        refine sp_lcI (own := R_law) (wc := sp_LY ady dcy nb sk kp v) (wr := sp_LX adx dcx nb sk kp u1) (n := 1) (rest := [.int r1]) hx hb hml hown hts hKy hW [0, 1, 2, 3, 4, 5] [6, 7, 8, 9, 10, 11] rfl rfl rfl (by decide) (by decide) (by decide) (metX1_recurrentOf l D ady dcy nb sk hok kp hkp _ _ _ _ hkf (xs (i + 1))) rfl q319 q320 q321 q31 q322 rfl rfl rfl (by decide +kernel) ⟨Nat.le_of_ble_eq_true rfl, Nat.le_of_ble_eq_true rfl⟩ rfl hl rfl (Nat.le_of_ble_eq_true rfl) ⟨Nat.le_of_ble_eq_true rfl, Nat.le_of_ble_eq_true rfl⟩ dL_law_427 (fun r2 v1 H locs hp2 hW => ?_)
        have hW : sp_Wd D (sp_LX adx dcx nb sk kp u1 ++ sp_LY ady dcy nb sk kp v1) (fun q => s.heap.size ≤ q) s.heap H locs := hW
        refine lv_icmp_eq (tgt := 435) hx hb dL_law_430 (by decide) (fun ce => ?_) (fun ce => ?_)
        · skip
          refine lv_iinc (v := nI (i + 4)) (lv' := [(3, .int (nI (i + 4))), (0, .ref (b)), (1, .ref (adx 0)), (2, .ref (ady 0))]) hx hb dL_law_435 hl (k := 3) rfl (nI_add i 4) (by decide) rfl (fun ls hl => ?_)
          refine lv_goto (tgt := 18) hx hb dL_law_438 (by decide) ?_
          exact ih (i + 4) nb sk kp u1 v1 (by omega) (by omega) hok hkp (hp1.2) (hp2.2) _ _ _ hW (lv_sub hl [1, 2, 3, 0] rfl)
        · skip
          exact absurd (sp_QV.uni hp1.1 hp2.1) ce
      · skip
        refine lv_tableOut (tgt := 435) hx hb dL_law_32 (by decide) (by decide) ?_
        refine lv_iinc (v := nI (i + 4)) (lv' := [(3, .int (nI (i + 4))), (0, .ref (b)), (1, .ref (adx 0)), (2, .ref (ady 0))]) hx hb dL_law_435 hl (k := 3) rfl (nI_add i 4) (by decide) rfl (fun ls hl => ?_)
        refine lv_goto (tgt := 18) hx hb dL_law_438 (by decide) ?_
        exact ih (i + 4) nb sk kp u v (by omega) (by omega) hok hkp (hkn) (hkf) _ _ _ hW (lv_sub hl [1, 2, 3, 0] rfl)
      · skip
        refine lv_tableOut (tgt := 435) hx hb dL_law_32 (by decide) (by decide) ?_
        refine lv_iinc (v := nI (i + 4)) (lv' := [(3, .int (nI (i + 4))), (0, .ref (b)), (1, .ref (adx 0)), (2, .ref (ady 0))]) hx hb dL_law_435 hl (k := 3) rfl (nI_add i 4) (by decide) rfl (fun ls hl => ?_)
        refine lv_goto (tgt := 18) hx hb dL_law_438 (by decide) ?_
        exact ih (i + 4) nb sk kp u v (by omega) (by omega) hok hkp (hkn) (hkf) _ _ _ hW (lv_sub hl [1, 2, 3, 0] rfl)
      · skip
        refine lv_tableOut (tgt := 435) hx hb dL_law_32 (by decide) (by decide) ?_
        refine lv_iinc (v := nI (i + 4)) (lv' := [(3, .int (nI (i + 4))), (0, .ref (b)), (1, .ref (adx 0)), (2, .ref (ady 0))]) hx hb dL_law_435 hl (k := 3) rfl (nI_add i 4) (by decide) rfl (fun ls hl => ?_)
        refine lv_goto (tgt := 18) hx hb dL_law_438 (by decide) ?_
        exact ih (i + 4) nb sk kp u v (by omega) (by omega) hok hkp (hkn) (hkf) _ _ _ hW (lv_sub hl [1, 2, 3, 0] rfl)
end
section
set_option maxRecDepth 100000
theorem sp_ok0 : sp_Ok (fun _ => 0) (fun _ => 1) := by
  refine ⟨fun a _ => ⟨Nat.le_of_ble_eq_true rfl, Nat.le_refl 1, Nat.le_of_ble_eq_true rfl, ?_⟩, fun a b _ _ => ?_⟩
  · simp [sp_E]
  · simp [sp_E]
set_option maxHeartbeats 4000000 in
/-- from the entry, for every script of at most 256 ints, the law comes to its end with true -/
theorem whole_start {p : Program} {e : Env} {s : State} {m : MethodId} {below : List Frame} {meth : Method} {c : Code} (l : Launch) {b L : Nat} {xs : Nat → Int32} (hL : L ≤ 256) (C0 : lw_At p s m meth c b L xs) : W p l e room_1 s m #[Value.ref b] below meth c s.heap [] 0 0 (lw_Z below #[Value.ref b] s) (entryFrame m ([Value.ref b] : List Value).toArray 4) := by
  obtain ⟨hx, hb, hr, hml, hown, hts0, hX, hbl, hlocks, hgv⟩ := id C0
  have hb : c.code = cL_law := hb
  have hts : ∀ w ∈ lw_all, w.before #[Value.ref b] s = true := fun w h => hts0 w (lw_all_tbl h)
  have hA : ∀ q : Nat, s.heap.size ≤ q → (fun q : Nat => s.heap.size ≤ q) q := fun _ h => h
  obtain ⟨c0, iS0, hKn0⟩ := u_known (C := RX0) (T := TX0) (N := 10) (n := 10) hts in_X0 (hts _ q33)
  obtain ⟨c1, iS1, hKn1⟩ := u_known (C := RX1) (T := TX1) (N := 7) (n := 7) hts in_X1 (hts _ q183)
  obtain ⟨dC, dI, hKc⟩ : ∃ (dC : Nat → ClassId) (dI : Nat → Nat → Nat), ∀ (k : Nat) (q : vw_C), vwCl[k]? = some q → u_Kn s q.1 q.2.1 q.2.2 (dC k) (dI k) := by
    refine ⟨fun k => if k = 0 then c0 else c1, fun k => if k = 0 then iS0 else iS1, ?_⟩
    intro k q hq
    match k, hq with
    | 0, hq => cases hq; exact hKn0
    | 1, hq => cases hq; exact hKn1
    | k + 2, hq => simp [vwCl] at hq
  have hS : va_S (fun q : Nat => s.heap.size ≤ q) s.heap s.heap [] := va_S.rf
  have hK : va_K (dC, dI) vwCl [] s := ⟨hKc, fun k q h => by simp at h⟩
  have hP : va_P (dC, dI) vwCl [] s.heap := fun k q h => by simp at h
  have hD : va_D (fun q : Nat => s.heap.size ≤ q) [] := ⟨fun i j p q h => by simp at h, fun k q h => by simp at h⟩
  have hl := lv_entry ([.ref b]) (n := 4) (Nat.le_of_ble_eq_true rfl)
  rw [lg_entry_eq]
  generalize (lg_sl ([.ref b]) ++ List.replicate (4 - (lg_sl ([.ref b])).length) Slot.unset).toArray = ls at hl ⊢
  have hl : lv_has ls 4 [(0, .ref b)] := hl
  refine va_new (ci := 0) (fs := [.null, .null, .null, .null, .int (nI 0), .int (nI 0), .int (nI 0), .int (nI 0), .int (nI 0), .null]) (C := RX0) (T := TX0) (N := 10) hx hb hts in_X0 tyX0 tyX0_ok hown (hts _ q32) (hts _ q33) (hts _ q30) hK hP hD hS hA rfl (fun j hj => by rcases (show j = 0 ∨ j = 1 ∨ j = 2 ∨ j = 3 ∨ j = 4 ∨ j = 5 ∨ j = 6 ∨ j = 7 ∨ j = 8 ∨ j = 9 by omega) with rfl | rfl | rfl | rfl | rfl | rfl | rfl | rfl | rfl | rfl <;> rfl) (Nat.le_of_ble_eq_true rfl) (Nat.le_of_ble_eq_true rfl) dL_law_0 (fun x0 H hP hD hS => ?_)
  have hW : sp_Wd (dC, dI) [(x0, .inr (0, [.null, .null, .null, .null, .int (nI 0), .int (nI 0), .int (nI 0), .int (nI 0), .int (nI 0), .null]))] (fun q : Nat => s.heap.size ≤ q) s.heap H [] := ⟨hP, hD, hS, hA⟩
  refine lv_dup hx hb dL_law_3 rfl ?_
  refine sp_lcC (own := R_law) (wr := []) (rest := [.ref x0]) hx hb hml hown hts hK hW [0] [] rfl rfl rfl (by decide) (by decide) (by decide) (metX0_init l (dC, dI) x0) q34 q35 q30 q36 rfl rfl rfl (by decide +kernel) ⟨Nat.le_of_ble_eq_true rfl, Nat.le_of_ble_eq_true rfl⟩ hl rfl (Nat.le_of_ble_eq_true rfl) ⟨Nat.le_of_ble_eq_true rfl, Nat.le_of_ble_eq_true rfl⟩ dL_law_4 (fun u H locs hK hW => ?_)
  obtain ⟨adx, hadx⟩ : ∃ adx, adx = sp_a6 x0 (u.1 1) (u.1 2) (u.1 3) (u.1 4) (u.1 5) := ⟨_, rfl⟩
  obtain ⟨dcx, hdcx⟩ : ∃ dcx, dcx = u.2 := ⟨_, rfl⟩
  have hx0 : x0 = adx 0 := by rw [hadx]; rfl
  have hK : va_K (dC, dI) vwCl (sp_tX dcx) s := by rw [hdcx]; exact hK
  have hW : sp_Wd (dC, dI) (sp_LX adx dcx (fun _ => 0) (fun _ => 1) 0 (fun _ => nI 0, fun _ => nI 0, nI 0, nI 0, nI 0, nI 0)) (fun q : Nat => s.heap.size ≤ q) s.heap H locs := by rw [hadx, hdcx]; exact hW
  rw [hx0]
  clear hx0 hadx hdcx
  refine lv_astore_n (lv' := [(1, .ref (adx 0)), (0, .ref b)]) hx hb dL_law_7 rfl hl (by decide) rfl (fun ls hl => ?_)
  refine va_new (ci := 1) (fs := [.null, .null, .null, .null, .null, .int (nI 0), .int (nI 0)]) (C := RX1) (T := TX1) (N := 7) hx hb hts in_X1 tyX1 tyX1_ok hown (hts _ q182) (hts _ q183) (hts _ q31) hK hW.1 hW.2.1 hW.2.2.1 hA rfl (fun j hj => by rcases (show j = 0 ∨ j = 1 ∨ j = 2 ∨ j = 3 ∨ j = 4 ∨ j = 5 ∨ j = 6 by omega) with rfl | rfl | rfl | rfl | rfl | rfl | rfl <;> rfl) (Nat.le_of_ble_eq_true rfl) (Nat.le_of_ble_eq_true rfl) dL_law_8 (fun y0 H hP hD hS => ?_)
  have hW : sp_Wd (dC, dI) (sp_LX adx dcx (fun _ => 0) (fun _ => 1) 0 (fun _ => nI 0, fun _ => nI 0, nI 0, nI 0, nI 0, nI 0) ++ [(y0, .inr (1, [.null, .null, .null, .null, .null, .int (nI 0), .int (nI 0)]))]) (fun q : Nat => s.heap.size ≤ q) s.heap H locs := ⟨hP, hD, hS, hA⟩
  refine lv_dup hx hb dL_law_11 rfl ?_
  refine sp_lcC (own := R_law) (wr := sp_LX adx dcx (fun _ => 0) (fun _ => 1) 0 (fun _ => nI 0, fun _ => nI 0, nI 0, nI 0, nI 0, nI 0)) (rest := [.ref y0]) hx hb hml hown hts hK hW [6] [0, 1, 2, 3, 4, 5] rfl rfl rfl (by decide) (by decide) (by decide) (metX1_init l (dC, dI) y0) q184 q185 q31 q186 rfl rfl rfl (by decide +kernel) ⟨Nat.le_of_ble_eq_true rfl, Nat.le_of_ble_eq_true rfl⟩ hl rfl (Nat.le_of_ble_eq_true rfl) ⟨Nat.le_of_ble_eq_true rfl, Nat.le_of_ble_eq_true rfl⟩ dL_law_12 (fun v H locs hK hW => ?_)
  obtain ⟨ady, hady⟩ : ∃ ady, ady = sp_a6 y0 (v.1 1) (v.1 2) (v.1 3) (v.1 4) (v.1 5) := ⟨_, rfl⟩
  obtain ⟨dcy, hdcy⟩ : ∃ dcy, dcy = v.2 := ⟨_, rfl⟩
  have hy0 : y0 = ady 0 := by rw [hady]; rfl
  have hK : va_K (dC, dI) vwCl (sp_tX dcx ++ sp_tY dcy) s := by rw [hdcy]; exact hK
  have hW : sp_Wd (dC, dI) (sp_LX adx dcx (fun _ => 0) (fun _ => 1) 0 (fun _ => nI 0, fun _ => nI 0, nI 0, nI 0, nI 0, nI 0) ++ sp_LY ady dcy (fun _ => 0) (fun _ => 1) 0 (fun _ => nI 0, fun _ => nI 0, nI 0, nI 0)) (fun q : Nat => s.heap.size ≤ q) s.heap H locs := by rw [hady, hdcy]; exact hW
  rw [hy0]
  clear hy0 hady hdcy
  refine lv_astore_n (lv' := [(2, .ref (ady 0)), (1, .ref (adx 0)), (0, .ref b)]) hx hb dL_law_15 rfl hl (by decide) rfl (fun ls hl => ?_)
  refine lv_iconst (v := nI 0) hx hb dL_law_16 (by decide) ?_
  refine lv_istore_n (lv' := [(3, .int (nI 0)), (2, .ref (ady 0)), (1, .ref (adx 0)), (0, .ref b)]) hx hb dL_law_17 rfl hl (by decide) rfl (fun ls hl => ?_)
  exact sp_lawloop l hL C0 (dC, dI) adx ady dcx dcy hK 300 0 (fun _ => 0) (fun _ => 1) 0 _ _ (by omega) (by omega) sp_ok0 (sp_KP0 sp_ok0) (Or.inl rfl) (Or.inl rfl) _ _ _ hW (lv_sub hl [3, 2, 1, 0] rfl)
end
section
set_option maxHeartbeats 4000000 in
theorem lw_walk (l : Launch) (b : Addr) (xs : List Int32) : MetFree l x (headSpec (Jvm.Cond.code x code maxLocals ret :: tables_1) room_1) (lw_P b xs) (fun _ _ _ _ _ => True) lw_Q := by
  refine MetFree.of_bodyS (code := code) (maxLocals := maxLocals) (ret := ret) (by decide) ?_ ?_
  · intro args s m h hn
    obtain ⟨meth, c, h1, h2, h3, h4, h5, h6, -, -⟩ := Cond.code_spec hn (atoms_spec (ws := Jvm.Cond.code x code maxLocals ret :: tables_1) h _ List.mem_cons_self)
    exact ⟨meth, c, h1, h2, h3, h4, h5, h6⟩
  · intro p e s m args below meth c s₁ B hml0 hP _
    obtain ⟨rfl, hx, hbd, hgv⟩ := hP
    obtain ⟨scr, harrAt, hlist, hof, hsmall⟩ := hx
    obtain ⟨hcb, hkn, -, -⟩ := State.arrayAt?_spec harrAt
    have hown : s.vm.findClass R_law = some m.cls := findClass_of_methodNamed B.named
    have hts0 : ∀ c ∈ (Jvm.Cond.code x code maxLocals ret :: tables_1), c.before #[Value.ref b] s = true := atoms_spec (ws := Jvm.Cond.code x code maxLocals ret :: tables_1) B.pre
    have hts : ∀ w ∈ lw_tbl, w.before #[Value.ref b] s = true := k2_hts_sels lw_privs (fun w hw => hts0 w (List.mem_cons_of_mem _ hw)) lw_privs_ok
    have hml : c.maxLocals = 4 := B.maxLocals_eq (hts0 _ List.mem_cons_self)
    have X₀ : Stand p l e room_1 s m #[Value.ref b] below meth c s₁ [] 0 0 := Stand.of_body B
    have hh0 : s₁.heap = s.heap := by rw [B.state]; rfl
    have hsz : scr.slots.size = xs.length := by rw [← Array.length_toList, hlist, List.length_map]
    have hval : ∀ j : Nat, j < xs.length → scr.slots[j]? = some (.int (xs.getD j 0)) := fun j hj => by
      rw [← Array.getElem?_toList, hlist]
      simp [hj]
    have hbl : b < s.heap.size := (Array.getElem?_eq_some_iff.mp hcb).1
    have hX : va_X b xs.length (fun j => xs.getD j 0) s s.heap := ⟨scr, hcb, hof, hkn, hsz, hval⟩
    have K : W p l e room_1 s m #[Value.ref b] below meth c s₁.heap [] 0 0 (lw_Z below #[Value.ref b] s) (entryFrame m ([Value.ref b] : List Value).toArray 4) := by
      rw [hh0]
      exact whole_start l hbd ⟨B.exec, B.bytes, B.returns, hml, hown, hts, hX, hbl, B.notSynchronized, hgv⟩
    obtain ⟨t, a1, o, b1, b2, b3⟩ := K s₁ rfl X₀
    exact ⟨t, o, a1, b1, b2, b3⟩
theorem lw_pre_spec {args : Array Value} {s : State} (h : (Jvm.Cond.and given_1 narrow_1).before args s = true) (hr : rest_1_c.before args s = true) : ∃ (b : Addr) (xs : List Int32), lw_P b xs args s := by
  have hs := flat_of_before _ h
  have hq := flat_of_before _ hr
  have hc : (Cond.count 1).before args s = true := hs _ (by decide +kernel)
  have harr : (Cond.arrayOf (.arg 0) .int).before args s = true := hs _ (by decide +kernel)
  have hle : (Cond.le (.length (.arg 0)) (.int 256)).before args s = true := hs _ (by decide +kernel)
  have hlen : (Cond.isInt (.length (.arg 0))).before args s = true := hq _ (by decide +kernel)
  have hall : (Cond.all (.arg 0) (.isInt (.elem (.arg 0) (.index 0)))).before args s = true := hq _ (by decide +kernel)
  obtain ⟨b, xs, hb, hx⟩ := State.ints_of_pre rfl harr hlen hall
  have hsm : xs.length < 2 ^ 31 := hx.choose_spec.2.2.2
  have hev : (Term.length (.arg 0)).eval args s none [] s = some (.int xs.length.toInt32) := hx.length_eval hb
  have hv := Cond.le_ints hev (show (Term.int 256).eval args s none [] s = some (.int 256) from rfl)
  have hd : xs.length.toInt32 ≤ 256 := by
    simpa [Cond.before, Cond.holds, hv] using hle
  have hN : xs.length ≤ 256 := (Int32.ofNat_le_ofNat hsm (by decide)).mp (show Int32.ofNat xs.length ≤ Int32.ofNat 256 from hd)
  exact ⟨b, xs, Cond.one_arg hc (show args[0]? = some (.ref b) from hb), hx, hN, h⟩
theorem lw_comes (l : Launch) : Comes l x (Jvm.Cond.code x code maxLocals ret :: tables_1) room_1 (fun tb e args s => Calls_1 tb e args s ∧ rest_1 tb e args s ∧ Pre_1 tb e args s)
    (fun _ _ args s o t => lw_Q args s o t) := by
  intro p e ha hc hk s m args below hf hfit hheap happ hpre
  obtain ⟨b, xs, hP⟩ := lw_pre_spec hpre.2.2 hpre.2.1
  obtain ⟨k, o, h1, h2, h3, hQ⟩ := lw_walk l b xs p e ha hc hk s m args below hf ((Spec.applies_iff_loose hf).mp happ).1 hP trivial
  exact ⟨k, o, h1, h2, h3, hQ⟩
theorem lw_frame {s t : State} {o : Outcome} {args : Array Value} (h : Framed s o t [] 600000 7290000) :
    Framed s o t (fieldLocs frame_1_writes args s ++ arrayLocs frame_1_arrays args s ++ staticLocs frame_1_statics s) 600000 7290000 := h
theorem lw_limb (L : Cond) (hL : ∀ (args : Array Value) (s t : State), L.after args s (.returned (some (.int 1))) t = true) :
    ArmFor flags0 classFile x code maxLocals ret World_1 tables_1 room_1 Calls_1 rest_1 Pre_1
      (fun tb e a s o t => postC L tb e a s o t ∧ Framed s o t (fieldLocs frame_1_writes a s ++ arrayLocs frame_1_arrays a s ++ staticLocs frame_1_statics s) 600000 7290000) := by
  intro l _ _ _ p e ha hc hk s m args below hf hfit hheap happ hpre
  obtain ⟨k, o, h1, h2, h3, rfl, hF⟩ := lw_comes l p e ha hc hk s m args below hf hfit hheap happ hpre
  exact ⟨k, _, h1, h2, h3, hL args s _, lw_frame hF⟩
theorem i_vc : Claimed_1_1 ∧ Claimed_1_2 := ⟨lw_limb limb_1_1 (fun args s t => by simp [limb_1_1, Cond.after, Cond.holds, Cond.value]), lw_limb limb_1_2 (fun args s t => Cond.after_iff.mpr (by
  first | (rw [show limb_1_2 = Cond.eq .result (.int 1) from rfl, Cond.eq_ints (x := 1) (y := 1) rfl rfl]; simp; done) | (simp [limb_1_2, Cond.value, Term.eval]; done)))⟩
end
