section
-- ===== PART A: goes FIRST, ahead of the names: the tables' words, and 'selects' of the private methods out of them =====
/-- a private method of a class that the tables say can be made, by its rows of tables_1 -/
def lw_okq (q : MethodName × Nat) : Prop := (q.1.cls ≠ "java/lang/invoke/MethodHandle" ∧ q.1.cls ≠ "java/lang/invoke/VarHandle") ∧ Cond.instantiable q.1.cls q.2 ∈ tables_1 ∧ Cond.privateMethod q.1 ∈ tables_1 ∧ Cond.instanceMethod q.1 ∈ tables_1
set_option maxRecDepth 100000
theorem lw_p0 : lw_okq (⟨"ScrubbedCells", "isWord", "(I)Z"⟩, 2) := ⟨⟨by decide +kernel, by decide +kernel⟩, List.mem_of_getElem? (i := 4) rfl, List.mem_of_getElem? (i := 24) rfl, List.mem_of_getElem? (i := 25) rfl⟩
theorem lw_p1 : lw_okq (⟨"ScrubbedCells", "encoded", "(I)I"⟩, 2) := ⟨⟨by decide +kernel, by decide +kernel⟩, List.mem_of_getElem? (i := 4) rfl, List.mem_of_getElem? (i := 28) rfl, List.mem_of_getElem? (i := 29) rfl⟩
theorem lw_p2 : lw_okq (⟨"ScrubbedCells", "spread", "(I)I"⟩, 2) := ⟨⟨by decide +kernel, by decide +kernel⟩, List.mem_of_getElem? (i := 4) rfl, List.mem_of_getElem? (i := 32) rfl, List.mem_of_getElem? (i := 33) rfl⟩
theorem lw_p3 : lw_okq (⟨"ScrubbedCells", "checksOf", "(I)I"⟩, 2) := ⟨⟨by decide +kernel, by decide +kernel⟩, List.mem_of_getElem? (i := 4) rfl, List.mem_of_getElem? (i := 36) rfl, List.mem_of_getElem? (i := 37) rfl⟩
theorem lw_p4 : lw_okq (⟨"ScrubbedCells", "isOdd", "(I)Z"⟩, 2) := ⟨⟨by decide +kernel, by decide +kernel⟩, List.mem_of_getElem? (i := 4) rfl, List.mem_of_getElem? (i := 40) rfl, List.mem_of_getElem? (i := 41) rfl⟩
theorem lw_p5 : lw_okq (⟨"ScrubbedCells", "onesIn", "(I)I"⟩, 2) := ⟨⟨by decide +kernel, by decide +kernel⟩, List.mem_of_getElem? (i := 4) rfl, List.mem_of_getElem? (i := 44) rfl, List.mem_of_getElem? (i := 45) rfl⟩
theorem lw_p6 : lw_okq (⟨"ScrubbedCells", "wrongBit", "(I)I"⟩, 2) := ⟨⟨by decide +kernel, by decide +kernel⟩, List.mem_of_getElem? (i := 4) rfl, List.mem_of_getElem? (i := 56) rfl, List.mem_of_getElem? (i := 57) rfl⟩
theorem lw_p7 : lw_okq (⟨"ScrubbedCells", "mended", "(II)I"⟩, 2) := ⟨⟨by decide +kernel, by decide +kernel⟩, List.mem_of_getElem? (i := 4) rfl, List.mem_of_getElem? (i := 60) rfl, List.mem_of_getElem? (i := 61) rfl⟩
theorem lw_p8 : lw_okq (⟨"ScrubbedCells", "byteIn", "(I)I"⟩, 2) := ⟨⟨by decide +kernel, by decide +kernel⟩, List.mem_of_getElem? (i := 4) rfl, List.mem_of_getElem? (i := 64) rfl, List.mem_of_getElem? (i := 65) rfl⟩
theorem lw_p9 : lw_okq (⟨"ScrubbedCells", "waysOfThree", "(I)I"⟩, 2) := ⟨⟨by decide +kernel, by decide +kernel⟩, List.mem_of_getElem? (i := 4) rfl, List.mem_of_getElem? (i := 101) rfl, List.mem_of_getElem? (i := 102) rfl⟩
theorem lw_p10 : lw_okq (⟨"ScrubbedCells", "waysOfTwo", "(I)I"⟩, 2) := ⟨⟨by decide +kernel, by decide +kernel⟩, List.mem_of_getElem? (i := 4) rfl, List.mem_of_getElem? (i := 105) rfl, List.mem_of_getElem? (i := 106) rfl⟩
theorem lw_p11 : lw_okq (⟨"ScrubbedCellsModel", "codeOf", "(I)I"⟩, 3) := ⟨⟨by decide +kernel, by decide +kernel⟩, List.mem_of_getElem? (i := 114) rfl, List.mem_of_getElem? (i := 120) rfl, List.mem_of_getElem? (i := 121) rfl⟩
theorem lw_p12 : lw_okq (⟨"ScrubbedCellsModel", "placeOf", "(I)I"⟩, 3) := ⟨⟨by decide +kernel, by decide +kernel⟩, List.mem_of_getElem? (i := 114) rfl, List.mem_of_getElem? (i := 124) rfl, List.mem_of_getElem? (i := 125) rfl⟩
theorem lw_p13 : lw_okq (⟨"ScrubbedCellsModel", "bit", "(II)I"⟩, 3) := ⟨⟨by decide +kernel, by decide +kernel⟩, List.mem_of_getElem? (i := 114) rfl, List.mem_of_getElem? (i := 128) rfl, List.mem_of_getElem? (i := 129) rfl⟩
theorem lw_p14 : lw_okq (⟨"ScrubbedCellsModel", "even", "(II)Z"⟩, 3) := ⟨⟨by decide +kernel, by decide +kernel⟩, List.mem_of_getElem? (i := 114) rfl, List.mem_of_getElem? (i := 132) rfl, List.mem_of_getElem? (i := 133) rfl⟩
theorem lw_p15 : lw_okq (⟨"ScrubbedCellsModel", "isWord", "(I)Z"⟩, 3) := ⟨⟨by decide +kernel, by decide +kernel⟩, List.mem_of_getElem? (i := 114) rfl, List.mem_of_getElem? (i := 151) rfl, List.mem_of_getElem? (i := 152) rfl⟩
def lw_privs_1 : List (MethodName × Nat) := [(⟨"ScrubbedCells", "isWord", "(I)Z"⟩, 2), (⟨"ScrubbedCells", "encoded", "(I)I"⟩, 2), (⟨"ScrubbedCells", "spread", "(I)I"⟩, 2), (⟨"ScrubbedCells", "checksOf", "(I)I"⟩, 2), (⟨"ScrubbedCells", "isOdd", "(I)Z"⟩, 2), (⟨"ScrubbedCells", "onesIn", "(I)I"⟩, 2), (⟨"ScrubbedCells", "wrongBit", "(I)I"⟩, 2), (⟨"ScrubbedCells", "mended", "(II)I"⟩, 2), (⟨"ScrubbedCells", "byteIn", "(I)I"⟩, 2), (⟨"ScrubbedCells", "waysOfThree", "(I)I"⟩, 2), (⟨"ScrubbedCells", "waysOfTwo", "(I)I"⟩, 2), (⟨"ScrubbedCellsModel", "codeOf", "(I)I"⟩, 3), (⟨"ScrubbedCellsModel", "placeOf", "(I)I"⟩, 3), (⟨"ScrubbedCellsModel", "bit", "(II)I"⟩, 3), (⟨"ScrubbedCellsModel", "even", "(II)Z"⟩, 3), (⟨"ScrubbedCellsModel", "isWord", "(I)Z"⟩, 3)]
theorem lw_r1 : ∀ q ∈ lw_privs_1, lw_okq q := List.forall_mem_cons.mpr ⟨lw_p0, List.forall_mem_cons.mpr ⟨lw_p1, List.forall_mem_cons.mpr ⟨lw_p2, List.forall_mem_cons.mpr ⟨lw_p3, List.forall_mem_cons.mpr ⟨lw_p4, List.forall_mem_cons.mpr ⟨lw_p5, List.forall_mem_cons.mpr ⟨lw_p6, List.forall_mem_cons.mpr ⟨lw_p7, List.forall_mem_cons.mpr ⟨lw_p8, List.forall_mem_cons.mpr ⟨lw_p9, List.forall_mem_cons.mpr ⟨lw_p10, List.forall_mem_cons.mpr ⟨lw_p11, List.forall_mem_cons.mpr ⟨lw_p12, List.forall_mem_cons.mpr ⟨lw_p13, List.forall_mem_cons.mpr ⟨lw_p14, List.forall_mem_cons.mpr ⟨lw_p15, fun _ h => absurd h List.not_mem_nil⟩⟩⟩⟩⟩⟩⟩⟩⟩⟩⟩⟩⟩⟩⟩⟩
theorem lw_p16 : lw_okq (⟨"ScrubbedCellsModel", "apart", "(II)I"⟩, 3) := ⟨⟨by decide +kernel, by decide +kernel⟩, List.mem_of_getElem? (i := 114) rfl, List.mem_of_getElem? (i := 163) rfl, List.mem_of_getElem? (i := 164) rfl⟩
def lw_privs_2 : List (MethodName × Nat) := [(⟨"ScrubbedCellsModel", "apart", "(II)I"⟩, 3)]
theorem lw_r2 : ∀ q ∈ lw_privs_2, lw_okq q := List.forall_mem_cons.mpr ⟨lw_p16, fun _ h => absurd h List.not_mem_nil⟩
def lw_privs : List (MethodName × Nat) := lw_privs_1 ++ (lw_privs_2)
def lw_tbl : List Cond := k2_sels lw_privs ++ tables_1
theorem lw_privs_ok : ∀ q ∈ lw_privs, lw_okq q := by
  show ∀ q ∈ lw_privs_1 ++ (lw_privs_2), lw_okq q
  exact List.forall_mem_append.mpr ⟨lw_r1, lw_r2⟩
-- ===== ONE list of words for every method: the tables' words that hold all through a run =====
def lw_all : List Cond := lw_tbl.filter goodWord
/-- a word of the tables by its place: claim/WORDS.tsv -/
theorem lw_w {w : Cond} (i : Nat) (h : lw_tbl[i]? = some w) (g : goodWord w = true) : w ∈ lw_all := List.mem_filter.mpr ⟨List.mem_of_getElem? h, g⟩
theorem lw_all_tbl {w : Cond} (h : w ∈ lw_all) : w ∈ lw_tbl := (List.mem_filter.mp h).1
theorem lw_self : GoodIn lw_all lw_all := fun w h => ⟨h, good_of_word (List.mem_filter.mp h).2⟩
/-- a class's field words, by their places -/
theorem lw_in (ws : List Cond) (ps : List Nat) (hp : ws = ps.filterMap (fun i => lw_tbl[i]?)) (hg : ws.all goodWord = true) : ∀ w ∈ ws, w ∈ lw_all := by
  intro w h
  have h1 := List.all_eq_true.mp hg w h
  rw [hp] at h
  obtain ⟨i, -, hi⟩ := List.mem_filterMap.mp h
  exact lw_w i hi h1
/-- the words of a contract for the method y with code b, L locals, answer r -/
abbrev ws_ (y : MethodName) (b : ByteArray) (L : Nat) (r : Option FieldType) : List Cond := Cond.code y b L r :: lw_all
theorem lw_meth {y : MethodName} {b : ByteArray} {L : Nat} {r : Option FieldType} (h : Cond.code y b L r ∈ lw_all) : GoodIn lw_all (ws_ y b L r) := by
  intro w hw
  rcases List.mem_cons.mp hw with e | e
  · rw [e]
    exact lw_self _ h
  · exact lw_self _ e
theorem lw_app {a c : List Cond} (ha : ∀ w ∈ a, w ∈ lw_all) (hc : GoodIn lw_all c) : GoodIn lw_all (a ++ c) := by
  intro w hw
  rcases List.mem_append.mp hw with e | e
  · exact lw_self w (ha w e)
  · exact hc w e
/-- what a call through an object asks: cwV n hts (lw_V ..) -/
theorem lw_V {own : String} {idx : Nat} {C : String} {y : MethodName} {b : ByteArray} {L : Nat} {r : Option FieldType} (h1 : Cond.methodLink own idx y ∈ lw_all) (h2 : Cond.instanceMethod y ∈ lw_all) (h3 : Cond.selects C y y ∈ lw_all) (h4 : Cond.initialized C ∈ lw_all) (h5 : Cond.code y b L r ∈ lw_all) : GoodIn lw_all (wsV own idx C y (ws_ y b L r)) := by
  refine lw_app ?_ (lw_meth h5)
  intro w hw
  simp only [List.mem_cons, List.not_mem_nil, or_false] at hw
  rcases hw with e | e | e | e
  · rw [e]; exact h1
  · rw [e]; exact h2
  · rw [e]; exact h3
  · rw [e]; exact h4
/-- what a static call asks: va_cwS n hts (lw_S ..) -/
theorem lw_S {own : String} {idx : Nat} {y : MethodName} {b : ByteArray} {L : Nat} {r : Option FieldType} (h1 : Cond.methodLink own idx y ∈ lw_all) (h2 : Cond.static y ∈ lw_all) (h3 : Cond.initialized y.cls ∈ lw_all) (h4 : Cond.code y b L r ∈ lw_all) : GoodIn lw_all (va_wsS own idx y (ws_ y b L r)) := by
  refine lw_app ?_ (lw_meth h4)
  intro w hw
  simp only [List.mem_cons, List.not_mem_nil, or_false] at hw
  rcases hw with e | e | e
  · rw [e]; exact h1
  · rw [e]; exact h2
  · rw [e]; exact h3
/-- the words of a contract for a method WITH HANDLERS (hh: its table) -/
abbrev wsW_ (y : MethodName) (b : ByteArray) (L : Nat) (r : Option FieldType) (hh : List (Nat × Nat × Nat × Nat)) : List Cond := Cond.codeWith y b L r hh :: lw_all
theorem lw_methW {y : MethodName} {b : ByteArray} {L : Nat} {r : Option FieldType} {hh : List (Nat × Nat × Nat × Nat)} (h : Cond.codeWith y b L r hh ∈ lw_all) : GoodIn lw_all (wsW_ y b L r hh) := by
  intro w hw
  rcases List.mem_cons.mp hw with e | e
  · rw [e]
    exact lw_self _ h
  · exact lw_self _ e
/-- any list of words by their places (lw_in), good -/
theorem lw_good {ws : List Cond} (h : ∀ w ∈ ws, w ∈ lw_all) : GoodIn lw_all ws := fun w hw => lw_self w (h w hw)
/-- what a call of a method with handlers asks: vx_cwVW n hts (lw_VW ..), vx_cwSW n hts (lw_SW ..) -/
theorem lw_VW {own : String} {idx : Nat} {C : String} {y : MethodName} {b : ByteArray} {L : Nat} {r : Option FieldType} {hh : List (Nat × Nat × Nat × Nat)} (h1 : Cond.methodLink own idx y ∈ lw_all) (h2 : Cond.instanceMethod y ∈ lw_all) (h3 : Cond.selects C y y ∈ lw_all) (h4 : Cond.initialized C ∈ lw_all) (h5 : Cond.codeWith y b L r hh ∈ lw_all) : GoodIn lw_all (wsV own idx C y (wsW_ y b L r hh)) := by
  refine lw_app ?_ (lw_methW h5)
  intro w hw
  simp only [List.mem_cons, List.not_mem_nil, or_false] at hw
  rcases hw with e | e | e | e
  · rw [e]; exact h1
  · rw [e]; exact h2
  · rw [e]; exact h3
  · rw [e]; exact h4
theorem lw_SW {own : String} {idx : Nat} {y : MethodName} {b : ByteArray} {L : Nat} {r : Option FieldType} {hh : List (Nat × Nat × Nat × Nat)} (h1 : Cond.methodLink own idx y ∈ lw_all) (h2 : Cond.static y ∈ lw_all) (h3 : Cond.initialized y.cls ∈ lw_all) (h4 : Cond.codeWith y b L r hh ∈ lw_all) : GoodIn lw_all (va_wsS own idx y (wsW_ y b L r hh)) := by
  refine lw_app ?_ (lw_methW h4)
  intro w hw
  simp only [List.mem_cons, List.not_mem_nil, or_false] at hw
  rcases hw with e | e | e
  · rw [e]; exact h1
  · rw [e]; exact h2
  · rw [e]; exact h3
/-- a word by its place in its run of the tables -/
theorem lw_at {r : List Cond} (hr : ∀ w ∈ r, w ∈ lw_tbl) {w : Cond} (i : Nat) (h : r[i]? = some w) : w ∈ lw_tbl := hr w (List.mem_of_getElem? h)
theorem lw_g {w : Cond} (h : w ∈ lw_tbl) (g : goodWord w = true) : w ∈ lw_all := List.mem_filter.mpr ⟨h, g⟩
theorem lw_ms : ∀ w ∈ k2_sels lw_privs, w ∈ lw_tbl := fun w h => show w ∈ k2_sels lw_privs ++ tables_1 from List.mem_append_left _ h
theorem lw_m0 : ∀ w ∈ tables_1, w ∈ lw_tbl := fun w h => show w ∈ k2_sels lw_privs ++ tables_1 from List.mem_append_right (k2_sels lw_privs) h
theorem qs0 : (Cond.selects "ScrubbedCells" ⟨"ScrubbedCells", "isWord", "(I)Z"⟩ ⟨"ScrubbedCells", "isWord", "(I)Z"⟩) ∈ lw_all := lw_g (lw_at lw_ms 0 rfl) rfl
theorem qs1 : (Cond.selects "ScrubbedCells" ⟨"ScrubbedCells", "encoded", "(I)I"⟩ ⟨"ScrubbedCells", "encoded", "(I)I"⟩) ∈ lw_all := lw_g (lw_at lw_ms 1 rfl) rfl
theorem qs2 : (Cond.selects "ScrubbedCells" ⟨"ScrubbedCells", "spread", "(I)I"⟩ ⟨"ScrubbedCells", "spread", "(I)I"⟩) ∈ lw_all := lw_g (lw_at lw_ms 2 rfl) rfl
theorem qs3 : (Cond.selects "ScrubbedCells" ⟨"ScrubbedCells", "checksOf", "(I)I"⟩ ⟨"ScrubbedCells", "checksOf", "(I)I"⟩) ∈ lw_all := lw_g (lw_at lw_ms 3 rfl) rfl
theorem qs4 : (Cond.selects "ScrubbedCells" ⟨"ScrubbedCells", "isOdd", "(I)Z"⟩ ⟨"ScrubbedCells", "isOdd", "(I)Z"⟩) ∈ lw_all := lw_g (lw_at lw_ms 4 rfl) rfl
theorem qs5 : (Cond.selects "ScrubbedCells" ⟨"ScrubbedCells", "onesIn", "(I)I"⟩ ⟨"ScrubbedCells", "onesIn", "(I)I"⟩) ∈ lw_all := lw_g (lw_at lw_ms 5 rfl) rfl
theorem qs6 : (Cond.selects "ScrubbedCells" ⟨"ScrubbedCells", "wrongBit", "(I)I"⟩ ⟨"ScrubbedCells", "wrongBit", "(I)I"⟩) ∈ lw_all := lw_g (lw_at lw_ms 6 rfl) rfl
theorem qs7 : (Cond.selects "ScrubbedCells" ⟨"ScrubbedCells", "mended", "(II)I"⟩ ⟨"ScrubbedCells", "mended", "(II)I"⟩) ∈ lw_all := lw_g (lw_at lw_ms 7 rfl) rfl
theorem qs8 : (Cond.selects "ScrubbedCells" ⟨"ScrubbedCells", "byteIn", "(I)I"⟩ ⟨"ScrubbedCells", "byteIn", "(I)I"⟩) ∈ lw_all := lw_g (lw_at lw_ms 8 rfl) rfl
theorem qs9 : (Cond.selects "ScrubbedCells" ⟨"ScrubbedCells", "waysOfThree", "(I)I"⟩ ⟨"ScrubbedCells", "waysOfThree", "(I)I"⟩) ∈ lw_all := lw_g (lw_at lw_ms 9 rfl) rfl
theorem qs10 : (Cond.selects "ScrubbedCells" ⟨"ScrubbedCells", "waysOfTwo", "(I)I"⟩ ⟨"ScrubbedCells", "waysOfTwo", "(I)I"⟩) ∈ lw_all := lw_g (lw_at lw_ms 10 rfl) rfl
theorem qs11 : (Cond.selects "ScrubbedCellsModel" ⟨"ScrubbedCellsModel", "codeOf", "(I)I"⟩ ⟨"ScrubbedCellsModel", "codeOf", "(I)I"⟩) ∈ lw_all := lw_g (lw_at lw_ms 11 rfl) rfl
theorem qs12 : (Cond.selects "ScrubbedCellsModel" ⟨"ScrubbedCellsModel", "placeOf", "(I)I"⟩ ⟨"ScrubbedCellsModel", "placeOf", "(I)I"⟩) ∈ lw_all := lw_g (lw_at lw_ms 12 rfl) rfl
theorem qs13 : (Cond.selects "ScrubbedCellsModel" ⟨"ScrubbedCellsModel", "bit", "(II)I"⟩ ⟨"ScrubbedCellsModel", "bit", "(II)I"⟩) ∈ lw_all := lw_g (lw_at lw_ms 13 rfl) rfl
theorem qs14 : (Cond.selects "ScrubbedCellsModel" ⟨"ScrubbedCellsModel", "even", "(II)Z"⟩ ⟨"ScrubbedCellsModel", "even", "(II)Z"⟩) ∈ lw_all := lw_g (lw_at lw_ms 14 rfl) rfl
theorem qs15 : (Cond.selects "ScrubbedCellsModel" ⟨"ScrubbedCellsModel", "isWord", "(I)Z"⟩ ⟨"ScrubbedCellsModel", "isWord", "(I)Z"⟩) ∈ lw_all := lw_g (lw_at lw_ms 15 rfl) rfl
theorem qs16 : (Cond.selects "ScrubbedCellsModel" ⟨"ScrubbedCellsModel", "apart", "(II)I"⟩ ⟨"ScrubbedCellsModel", "apart", "(II)I"⟩) ∈ lw_all := lw_g (lw_at lw_ms 16 rfl) rfl
end
section
/-! java/lang/Object -/
set_option maxRecDepth 100000
def RJ0 : String := "java/lang/Object"
abbrev cJ0_init : ByteArray := object_method_1_code
def yJ0_init : MethodName := ⟨RJ0, "<init>", "()V"⟩
theorem dJ0_init_0 : decode cJ0_init 0 = .ok (.return_, 1) := by decide +kernel
theorem q26 : (Jvm.Cond.instanceMethod ({ cls := "java/lang/Object", name := "<init>", desc := "()V" } : Jvm.MethodName)) ∈ lw_all := lw_g (lw_at lw_m0 9 rfl) rfl
theorem q27 : (Jvm.Cond.code ({ cls := "java/lang/Object", name := "<init>", desc := "()V" } : Jvm.MethodName) object_method_1_code (1 : Nat) (Option.none : Option Jvm.ClassFile.FieldType)) ∈ lw_all := lw_g (lw_at lw_m0 10 rfl) rfl
theorem q35 : (Jvm.Cond.arrayClass Jvm.ClassFile.FieldType.short) ∈ lw_all := lw_g (lw_at lw_m0 18 rfl) rfl
set_option maxRecDepth 100000
theorem q162 : (Jvm.Cond.arrayClass Jvm.ClassFile.FieldType.int) ∈ lw_all := lw_g (lw_at lw_m0 145 rfl) rfl
/-! ScrubbedCells -/
set_option maxRecDepth 100000
def RX0 : String := "ScrubbedCells"
def TX0 : u_T := fun k => match k with
  | 0 => ("ScrubbedCells", "words", "[S", true)
  | _ => ("ScrubbedCells", "nextWord", "I", false)
def tyX0 : Nat → FieldType := fun k => match k with
  | 0 => .array .short
  | _ => .int
abbrev wsX00 : List Cond := u_ws RX0 TX0 2
theorem nmX0 : ∀ a, a < 2 → ∀ b, b < 2 → a ≠ b → (TX0 a).2.1 ≠ (TX0 b).2.1 := by decide +kernel
theorem tyX0_ok : ∀ k, k < 2 → parseFieldDescriptor (TX0 k).2.2.1 = some (tyX0 k) := by decide +kernel
abbrev cX0_init : ByteArray := prog_1_method_1_code
def yX0_init : MethodName := ⟨RX0, "<init>", "()V"⟩
theorem dX0_init_0 : decode cX0_init 0 = .ok (.aload_n 0, 1) := by decide +kernel
theorem dX0_init_1 : decode cX0_init 1 = .ok (.invokespecial 1, 3) := by decide +kernel
theorem dX0_init_4 : decode cX0_init 4 = .ok (.aload_n 0, 1) := by decide +kernel
theorem dX0_init_5 : decode cX0_init 5 = .ok (.bipush 16, 2) := by decide +kernel
theorem dX0_init_7 : decode cX0_init 7 = .ok (.newarray .short, 2) := by decide +kernel
theorem dX0_init_9 : decode cX0_init 9 = .ok (.putfield 7, 3) := by decide +kernel
theorem dX0_init_12 : decode cX0_init 12 = .ok (.return_, 1) := by decide +kernel
abbrev cX0_write : ByteArray := prog_1_method_2_code
def yX0_write : MethodName := ⟨RX0, "write", "(II)I"⟩
theorem dX0_write_0 : decode cX0_write 0 = .ok (.aload_n 0, 1) := by decide +kernel
theorem dX0_write_1 : decode cX0_write 1 = .ok (.iload_n 1, 1) := by decide +kernel
theorem dX0_write_2 : decode cX0_write 2 = .ok (.invokevirtual 13, 3) := by decide +kernel
theorem dX0_write_5 : decode cX0_write 5 = .ok (.ifCond .eq 14, 3) := by decide +kernel
theorem dX0_write_8 : decode cX0_write 8 = .ok (.iload_n 2, 1) := by decide +kernel
theorem dX0_write_9 : decode cX0_write 9 = .ok (.ifCond .lt 10, 3) := by decide +kernel
theorem dX0_write_12 : decode cX0_write 12 = .ok (.iload_n 2, 1) := by decide +kernel
theorem dX0_write_13 : decode cX0_write 13 = .ok (.sipush 255, 3) := by decide +kernel
theorem dX0_write_16 : decode cX0_write 16 = .ok (.if_icmp .le 5, 3) := by decide +kernel
theorem dX0_write_19 : decode cX0_write 19 = .ok (.iconst (-1), 1) := by decide +kernel
theorem dX0_write_20 : decode cX0_write 20 = .ok (.ireturn, 1) := by decide +kernel
theorem dX0_write_21 : decode cX0_write 21 = .ok (.aload_n 0, 1) := by decide +kernel
theorem dX0_write_22 : decode cX0_write 22 = .ok (.getfield 7, 3) := by decide +kernel
theorem dX0_write_25 : decode cX0_write 25 = .ok (.iload_n 1, 1) := by decide +kernel
theorem dX0_write_26 : decode cX0_write 26 = .ok (.aload_n 0, 1) := by decide +kernel
theorem dX0_write_27 : decode cX0_write 27 = .ok (.iload_n 2, 1) := by decide +kernel
theorem dX0_write_28 : decode cX0_write 28 = .ok (.invokevirtual 17, 3) := by decide +kernel
theorem dX0_write_31 : decode cX0_write 31 = .ok (.i2s, 1) := by decide +kernel
theorem dX0_write_32 : decode cX0_write 32 = .ok (.sastore, 1) := by decide +kernel
theorem dX0_write_33 : decode cX0_write 33 = .ok (.aload_n 0, 1) := by decide +kernel
theorem dX0_write_34 : decode cX0_write 34 = .ok (.getfield 7, 3) := by decide +kernel
theorem dX0_write_37 : decode cX0_write 37 = .ok (.iload_n 1, 1) := by decide +kernel
theorem dX0_write_38 : decode cX0_write 38 = .ok (.saload, 1) := by decide +kernel
theorem dX0_write_39 : decode cX0_write 39 = .ok (.ireturn, 1) := by decide +kernel
abbrev cX0_isWord : ByteArray := prog_1_method_14_code
def yX0_isWord : MethodName := ⟨RX0, "isWord", "(I)Z"⟩
theorem dX0_isWord_0 : decode cX0_isWord 0 = .ok (.iload_n 1, 1) := by decide +kernel
theorem dX0_isWord_1 : decode cX0_isWord 1 = .ok (.ifCond .lt 13, 3) := by decide +kernel
theorem dX0_isWord_4 : decode cX0_isWord 4 = .ok (.iload_n 1, 1) := by decide +kernel
theorem dX0_isWord_5 : decode cX0_isWord 5 = .ok (.bipush 15, 2) := by decide +kernel
theorem dX0_isWord_7 : decode cX0_isWord 7 = .ok (.if_icmp .gt 7, 3) := by decide +kernel
theorem dX0_isWord_10 : decode cX0_isWord 10 = .ok (.iconst 1, 1) := by decide +kernel
theorem dX0_isWord_11 : decode cX0_isWord 11 = .ok (.goto 4, 3) := by decide +kernel
theorem dX0_isWord_14 : decode cX0_isWord 14 = .ok (.iconst 0, 1) := by decide +kernel
theorem dX0_isWord_15 : decode cX0_isWord 15 = .ok (.ireturn, 1) := by decide +kernel
abbrev cX0_encoded : ByteArray := prog_1_method_20_code
def yX0_encoded : MethodName := ⟨RX0, "encoded", "(I)I"⟩
theorem dX0_encoded_0 : decode cX0_encoded 0 = .ok (.aload_n 0, 1) := by decide +kernel
theorem dX0_encoded_1 : decode cX0_encoded 1 = .ok (.iload_n 1, 1) := by decide +kernel
theorem dX0_encoded_2 : decode cX0_encoded 2 = .ok (.invokevirtual 56, 3) := by decide +kernel
theorem dX0_encoded_5 : decode cX0_encoded 5 = .ok (.istore_n 2, 1) := by decide +kernel
theorem dX0_encoded_6 : decode cX0_encoded 6 = .ok (.aload_n 0, 1) := by decide +kernel
theorem dX0_encoded_7 : decode cX0_encoded 7 = .ok (.iload_n 2, 1) := by decide +kernel
theorem dX0_encoded_8 : decode cX0_encoded 8 = .ok (.invokevirtual 41, 3) := by decide +kernel
theorem dX0_encoded_11 : decode cX0_encoded 11 = .ok (.istore_n 3, 1) := by decide +kernel
theorem dX0_encoded_12 : decode cX0_encoded 12 = .ok (.iconst 1, 1) := by decide +kernel
theorem dX0_encoded_13 : decode cX0_encoded 13 = .ok (.istore 4, 2) := by decide +kernel
theorem dX0_encoded_15 : decode cX0_encoded 15 = .ok (.iload 4, 2) := by decide +kernel
theorem dX0_encoded_17 : decode cX0_encoded 17 = .ok (.bipush 8, 2) := by decide +kernel
theorem dX0_encoded_19 : decode cX0_encoded 19 = .ok (.if_icmp .gt 26, 3) := by decide +kernel
theorem dX0_encoded_22 : decode cX0_encoded 22 = .ok (.iload_n 3, 1) := by decide +kernel
theorem dX0_encoded_23 : decode cX0_encoded 23 = .ok (.iload 4, 2) := by decide +kernel
theorem dX0_encoded_25 : decode cX0_encoded 25 = .ok (.iand, 1) := by decide +kernel
theorem dX0_encoded_26 : decode cX0_encoded 26 = .ok (.ifCond .eq 10, 3) := by decide +kernel
theorem dX0_encoded_29 : decode cX0_encoded 29 = .ok (.iload_n 2, 1) := by decide +kernel
theorem dX0_encoded_30 : decode cX0_encoded 30 = .ok (.iconst 1, 1) := by decide +kernel
theorem dX0_encoded_31 : decode cX0_encoded 31 = .ok (.iload 4, 2) := by decide +kernel
theorem dX0_encoded_33 : decode cX0_encoded 33 = .ok (.ishl, 1) := by decide +kernel
theorem dX0_encoded_34 : decode cX0_encoded 34 = .ok (.ior, 1) := by decide +kernel
theorem dX0_encoded_35 : decode cX0_encoded 35 = .ok (.istore_n 2, 1) := by decide +kernel
theorem dX0_encoded_36 : decode cX0_encoded 36 = .ok (.iload 4, 2) := by decide +kernel
theorem dX0_encoded_38 : decode cX0_encoded 38 = .ok (.iconst 2, 1) := by decide +kernel
theorem dX0_encoded_39 : decode cX0_encoded 39 = .ok (.imul, 1) := by decide +kernel
theorem dX0_encoded_40 : decode cX0_encoded 40 = .ok (.istore 4, 2) := by decide +kernel
theorem dX0_encoded_42 : decode cX0_encoded 42 = .ok (.goto (-27), 3) := by decide +kernel
theorem dX0_encoded_45 : decode cX0_encoded 45 = .ok (.aload_n 0, 1) := by decide +kernel
theorem dX0_encoded_46 : decode cX0_encoded 46 = .ok (.iload_n 2, 1) := by decide +kernel
theorem dX0_encoded_47 : decode cX0_encoded 47 = .ok (.invokevirtual 44, 3) := by decide +kernel
theorem dX0_encoded_50 : decode cX0_encoded 50 = .ok (.ifCond .eq 9, 3) := by decide +kernel
theorem dX0_encoded_53 : decode cX0_encoded 53 = .ok (.iload_n 2, 1) := by decide +kernel
theorem dX0_encoded_54 : decode cX0_encoded 54 = .ok (.iconst 1, 1) := by decide +kernel
theorem dX0_encoded_55 : decode cX0_encoded 55 = .ok (.ior, 1) := by decide +kernel
theorem dX0_encoded_56 : decode cX0_encoded 56 = .ok (.goto 4, 3) := by decide +kernel
theorem dX0_encoded_59 : decode cX0_encoded 59 = .ok (.iload_n 2, 1) := by decide +kernel
theorem dX0_encoded_60 : decode cX0_encoded 60 = .ok (.ireturn, 1) := by decide +kernel
abbrev cX0_spread : ByteArray := prog_1_method_18_code
def yX0_spread : MethodName := ⟨RX0, "spread", "(I)I"⟩
theorem dX0_spread_0 : decode cX0_spread 0 = .ok (.iconst 0, 1) := by decide +kernel
theorem dX0_spread_1 : decode cX0_spread 1 = .ok (.istore_n 2, 1) := by decide +kernel
theorem dX0_spread_2 : decode cX0_spread 2 = .ok (.iconst 0, 1) := by decide +kernel
theorem dX0_spread_3 : decode cX0_spread 3 = .ok (.istore_n 3, 1) := by decide +kernel
theorem dX0_spread_4 : decode cX0_spread 4 = .ok (.iconst 3, 1) := by decide +kernel
theorem dX0_spread_5 : decode cX0_spread 5 = .ok (.istore 4, 2) := by decide +kernel
theorem dX0_spread_7 : decode cX0_spread 7 = .ok (.iload 4, 2) := by decide +kernel
theorem dX0_spread_9 : decode cX0_spread 9 = .ok (.bipush 13, 2) := by decide +kernel
theorem dX0_spread_11 : decode cX0_spread 11 = .ok (.if_icmp .ge 36, 3) := by decide +kernel
theorem dX0_spread_14 : decode cX0_spread 14 = .ok (.iload 4, 2) := by decide +kernel
theorem dX0_spread_16 : decode cX0_spread 16 = .ok (.iload 4, 2) := by decide +kernel
theorem dX0_spread_18 : decode cX0_spread 18 = .ok (.iconst 1, 1) := by decide +kernel
theorem dX0_spread_19 : decode cX0_spread 19 = .ok (.isub, 1) := by decide +kernel
theorem dX0_spread_20 : decode cX0_spread 20 = .ok (.iand, 1) := by decide +kernel
theorem dX0_spread_21 : decode cX0_spread 21 = .ok (.ifCond .ne 6, 3) := by decide +kernel
theorem dX0_spread_24 : decode cX0_spread 24 = .ok (.goto 17, 3) := by decide +kernel
theorem dX0_spread_27 : decode cX0_spread 27 = .ok (.iload_n 2, 1) := by decide +kernel
theorem dX0_spread_28 : decode cX0_spread 28 = .ok (.iload_n 1, 1) := by decide +kernel
theorem dX0_spread_29 : decode cX0_spread 29 = .ok (.iload_n 3, 1) := by decide +kernel
theorem dX0_spread_30 : decode cX0_spread 30 = .ok (.ishr, 1) := by decide +kernel
theorem dX0_spread_31 : decode cX0_spread 31 = .ok (.iconst 1, 1) := by decide +kernel
theorem dX0_spread_32 : decode cX0_spread 32 = .ok (.iand, 1) := by decide +kernel
theorem dX0_spread_33 : decode cX0_spread 33 = .ok (.iload 4, 2) := by decide +kernel
theorem dX0_spread_35 : decode cX0_spread 35 = .ok (.ishl, 1) := by decide +kernel
theorem dX0_spread_36 : decode cX0_spread 36 = .ok (.ior, 1) := by decide +kernel
theorem dX0_spread_37 : decode cX0_spread 37 = .ok (.istore_n 2, 1) := by decide +kernel
theorem dX0_spread_38 : decode cX0_spread 38 = .ok (.iinc 3 1, 3) := by decide +kernel
theorem dX0_spread_41 : decode cX0_spread 41 = .ok (.iinc 4 1, 3) := by decide +kernel
theorem dX0_spread_44 : decode cX0_spread 44 = .ok (.goto (-37), 3) := by decide +kernel
theorem dX0_spread_47 : decode cX0_spread 47 = .ok (.iload_n 2, 1) := by decide +kernel
theorem dX0_spread_48 : decode cX0_spread 48 = .ok (.ireturn, 1) := by decide +kernel
abbrev cX0_checksOf : ByteArray := prog_1_method_17_code
def yX0_checksOf : MethodName := ⟨RX0, "checksOf", "(I)I"⟩
theorem dX0_checksOf_0 : decode cX0_checksOf 0 = .ok (.iconst 0, 1) := by decide +kernel
theorem dX0_checksOf_1 : decode cX0_checksOf 1 = .ok (.istore_n 2, 1) := by decide +kernel
theorem dX0_checksOf_2 : decode cX0_checksOf 2 = .ok (.iconst 1, 1) := by decide +kernel
theorem dX0_checksOf_3 : decode cX0_checksOf 3 = .ok (.istore_n 3, 1) := by decide +kernel
theorem dX0_checksOf_4 : decode cX0_checksOf 4 = .ok (.iload_n 3, 1) := by decide +kernel
theorem dX0_checksOf_5 : decode cX0_checksOf 5 = .ok (.bipush 13, 2) := by decide +kernel
theorem dX0_checksOf_7 : decode cX0_checksOf 7 = .ok (.if_icmp .ge 21, 3) := by decide +kernel
theorem dX0_checksOf_10 : decode cX0_checksOf 10 = .ok (.iload_n 1, 1) := by decide +kernel
theorem dX0_checksOf_11 : decode cX0_checksOf 11 = .ok (.iload_n 3, 1) := by decide +kernel
theorem dX0_checksOf_12 : decode cX0_checksOf 12 = .ok (.ishr, 1) := by decide +kernel
theorem dX0_checksOf_13 : decode cX0_checksOf 13 = .ok (.iconst 1, 1) := by decide +kernel
theorem dX0_checksOf_14 : decode cX0_checksOf 14 = .ok (.iand, 1) := by decide +kernel
theorem dX0_checksOf_15 : decode cX0_checksOf 15 = .ok (.ifCond .eq 7, 3) := by decide +kernel
theorem dX0_checksOf_18 : decode cX0_checksOf 18 = .ok (.iload_n 2, 1) := by decide +kernel
theorem dX0_checksOf_19 : decode cX0_checksOf 19 = .ok (.iload_n 3, 1) := by decide +kernel
theorem dX0_checksOf_20 : decode cX0_checksOf 20 = .ok (.ixor, 1) := by decide +kernel
theorem dX0_checksOf_21 : decode cX0_checksOf 21 = .ok (.istore_n 2, 1) := by decide +kernel
theorem dX0_checksOf_22 : decode cX0_checksOf 22 = .ok (.iinc 3 1, 3) := by decide +kernel
theorem dX0_checksOf_25 : decode cX0_checksOf 25 = .ok (.goto (-21), 3) := by decide +kernel
theorem dX0_checksOf_28 : decode cX0_checksOf 28 = .ok (.iload_n 2, 1) := by decide +kernel
theorem dX0_checksOf_29 : decode cX0_checksOf 29 = .ok (.ireturn, 1) := by decide +kernel
abbrev cX0_isOdd : ByteArray := prog_1_method_16_code
def yX0_isOdd : MethodName := ⟨RX0, "isOdd", "(I)Z"⟩
theorem dX0_isOdd_0 : decode cX0_isOdd 0 = .ok (.aload_n 0, 1) := by decide +kernel
theorem dX0_isOdd_1 : decode cX0_isOdd 1 = .ok (.iload_n 1, 1) := by decide +kernel
theorem dX0_isOdd_2 : decode cX0_isOdd 2 = .ok (.invokevirtual 38, 3) := by decide +kernel
theorem dX0_isOdd_5 : decode cX0_isOdd 5 = .ok (.istore_n 2, 1) := by decide +kernel
theorem dX0_isOdd_6 : decode cX0_isOdd 6 = .ok (.iload_n 2, 1) := by decide +kernel
theorem dX0_isOdd_7 : decode cX0_isOdd 7 = .ok (.iconst 1, 1) := by decide +kernel
theorem dX0_isOdd_8 : decode cX0_isOdd 8 = .ok (.iand, 1) := by decide +kernel
theorem dX0_isOdd_9 : decode cX0_isOdd 9 = .ok (.ifCond .eq 7, 3) := by decide +kernel
theorem dX0_isOdd_12 : decode cX0_isOdd 12 = .ok (.iconst 1, 1) := by decide +kernel
theorem dX0_isOdd_13 : decode cX0_isOdd 13 = .ok (.goto 4, 3) := by decide +kernel
theorem dX0_isOdd_16 : decode cX0_isOdd 16 = .ok (.iconst 0, 1) := by decide +kernel
theorem dX0_isOdd_17 : decode cX0_isOdd 17 = .ok (.ireturn, 1) := by decide +kernel
abbrev cX0_onesIn : ByteArray := prog_1_method_15_code
def yX0_onesIn : MethodName := ⟨RX0, "onesIn", "(I)I"⟩
theorem dX0_onesIn_0 : decode cX0_onesIn 0 = .ok (.iconst 0, 1) := by decide +kernel
theorem dX0_onesIn_1 : decode cX0_onesIn 1 = .ok (.istore_n 2, 1) := by decide +kernel
theorem dX0_onesIn_2 : decode cX0_onesIn 2 = .ok (.iconst 0, 1) := by decide +kernel
theorem dX0_onesIn_3 : decode cX0_onesIn 3 = .ok (.istore_n 3, 1) := by decide +kernel
theorem dX0_onesIn_4 : decode cX0_onesIn 4 = .ok (.iload_n 3, 1) := by decide +kernel
theorem dX0_onesIn_5 : decode cX0_onesIn 5 = .ok (.bipush 13, 2) := by decide +kernel
theorem dX0_onesIn_7 : decode cX0_onesIn 7 = .ok (.if_icmp .ge 17, 3) := by decide +kernel
theorem dX0_onesIn_10 : decode cX0_onesIn 10 = .ok (.iload_n 2, 1) := by decide +kernel
theorem dX0_onesIn_11 : decode cX0_onesIn 11 = .ok (.iload_n 1, 1) := by decide +kernel
theorem dX0_onesIn_12 : decode cX0_onesIn 12 = .ok (.iload_n 3, 1) := by decide +kernel
theorem dX0_onesIn_13 : decode cX0_onesIn 13 = .ok (.ishr, 1) := by decide +kernel
theorem dX0_onesIn_14 : decode cX0_onesIn 14 = .ok (.iconst 1, 1) := by decide +kernel
theorem dX0_onesIn_15 : decode cX0_onesIn 15 = .ok (.iand, 1) := by decide +kernel
theorem dX0_onesIn_16 : decode cX0_onesIn 16 = .ok (.iadd, 1) := by decide +kernel
theorem dX0_onesIn_17 : decode cX0_onesIn 17 = .ok (.istore_n 2, 1) := by decide +kernel
theorem dX0_onesIn_18 : decode cX0_onesIn 18 = .ok (.iinc 3 1, 3) := by decide +kernel
theorem dX0_onesIn_21 : decode cX0_onesIn 21 = .ok (.goto (-17), 3) := by decide +kernel
theorem dX0_onesIn_24 : decode cX0_onesIn 24 = .ok (.iload_n 2, 1) := by decide +kernel
theorem dX0_onesIn_25 : decode cX0_onesIn 25 = .ok (.ireturn, 1) := by decide +kernel
abbrev cX0_flip : ByteArray := prog_1_method_3_code
def yX0_flip : MethodName := ⟨RX0, "flip", "(II)I"⟩
theorem dX0_flip_0 : decode cX0_flip 0 = .ok (.aload_n 0, 1) := by decide +kernel
theorem dX0_flip_1 : decode cX0_flip 1 = .ok (.iload_n 1, 1) := by decide +kernel
theorem dX0_flip_2 : decode cX0_flip 2 = .ok (.invokevirtual 13, 3) := by decide +kernel
theorem dX0_flip_5 : decode cX0_flip 5 = .ok (.ifCond .eq 13, 3) := by decide +kernel
theorem dX0_flip_8 : decode cX0_flip 8 = .ok (.iload_n 2, 1) := by decide +kernel
theorem dX0_flip_9 : decode cX0_flip 9 = .ok (.ifCond .lt 9, 3) := by decide +kernel
theorem dX0_flip_12 : decode cX0_flip 12 = .ok (.iload_n 2, 1) := by decide +kernel
theorem dX0_flip_13 : decode cX0_flip 13 = .ok (.bipush 12, 2) := by decide +kernel
theorem dX0_flip_15 : decode cX0_flip 15 = .ok (.if_icmp .le 5, 3) := by decide +kernel
theorem dX0_flip_18 : decode cX0_flip 18 = .ok (.iconst (-1), 1) := by decide +kernel
theorem dX0_flip_19 : decode cX0_flip 19 = .ok (.ireturn, 1) := by decide +kernel
theorem dX0_flip_20 : decode cX0_flip 20 = .ok (.aload_n 0, 1) := by decide +kernel
theorem dX0_flip_21 : decode cX0_flip 21 = .ok (.getfield 7, 3) := by decide +kernel
theorem dX0_flip_24 : decode cX0_flip 24 = .ok (.iload_n 1, 1) := by decide +kernel
theorem dX0_flip_25 : decode cX0_flip 25 = .ok (.dup2, 1) := by decide +kernel
theorem dX0_flip_26 : decode cX0_flip 26 = .ok (.saload, 1) := by decide +kernel
theorem dX0_flip_27 : decode cX0_flip 27 = .ok (.iconst 1, 1) := by decide +kernel
theorem dX0_flip_28 : decode cX0_flip 28 = .ok (.iload_n 2, 1) := by decide +kernel
theorem dX0_flip_29 : decode cX0_flip 29 = .ok (.ishl, 1) := by decide +kernel
theorem dX0_flip_30 : decode cX0_flip 30 = .ok (.ixor, 1) := by decide +kernel
theorem dX0_flip_31 : decode cX0_flip 31 = .ok (.i2s, 1) := by decide +kernel
theorem dX0_flip_32 : decode cX0_flip 32 = .ok (.sastore, 1) := by decide +kernel
theorem dX0_flip_33 : decode cX0_flip 33 = .ok (.aload_n 0, 1) := by decide +kernel
theorem dX0_flip_34 : decode cX0_flip 34 = .ok (.getfield 7, 3) := by decide +kernel
theorem dX0_flip_37 : decode cX0_flip 37 = .ok (.iload_n 1, 1) := by decide +kernel
theorem dX0_flip_38 : decode cX0_flip 38 = .ok (.saload, 1) := by decide +kernel
theorem dX0_flip_39 : decode cX0_flip 39 = .ok (.ireturn, 1) := by decide +kernel
abbrev cX0_read : ByteArray := prog_1_method_4_code
def yX0_read : MethodName := ⟨RX0, "read", "(I)I"⟩
theorem dX0_read_0 : decode cX0_read 0 = .ok (.aload_n 0, 1) := by decide +kernel
theorem dX0_read_1 : decode cX0_read 1 = .ok (.iload_n 1, 1) := by decide +kernel
theorem dX0_read_2 : decode cX0_read 2 = .ok (.invokevirtual 13, 3) := by decide +kernel
theorem dX0_read_5 : decode cX0_read 5 = .ok (.ifCond .ne 5, 3) := by decide +kernel
theorem dX0_read_8 : decode cX0_read 8 = .ok (.iconst (-1), 1) := by decide +kernel
theorem dX0_read_9 : decode cX0_read 9 = .ok (.ireturn, 1) := by decide +kernel
theorem dX0_read_10 : decode cX0_read 10 = .ok (.aload_n 0, 1) := by decide +kernel
theorem dX0_read_11 : decode cX0_read 11 = .ok (.aload_n 0, 1) := by decide +kernel
theorem dX0_read_12 : decode cX0_read 12 = .ok (.getfield 7, 3) := by decide +kernel
theorem dX0_read_15 : decode cX0_read 15 = .ok (.iload_n 1, 1) := by decide +kernel
theorem dX0_read_16 : decode cX0_read 16 = .ok (.saload, 1) := by decide +kernel
theorem dX0_read_17 : decode cX0_read 17 = .ok (.invokevirtual 21, 3) := by decide +kernel
theorem dX0_read_20 : decode cX0_read 20 = .ok (.istore_n 2, 1) := by decide +kernel
theorem dX0_read_21 : decode cX0_read 21 = .ok (.iload_n 2, 1) := by decide +kernel
theorem dX0_read_22 : decode cX0_read 22 = .ok (.bipush (-2), 2) := by decide +kernel
theorem dX0_read_24 : decode cX0_read 24 = .ok (.if_icmp .ne 6, 3) := by decide +kernel
theorem dX0_read_27 : decode cX0_read 27 = .ok (.bipush (-2), 2) := by decide +kernel
theorem dX0_read_29 : decode cX0_read 29 = .ok (.ireturn, 1) := by decide +kernel
theorem dX0_read_30 : decode cX0_read 30 = .ok (.aload_n 0, 1) := by decide +kernel
theorem dX0_read_31 : decode cX0_read 31 = .ok (.aload_n 0, 1) := by decide +kernel
theorem dX0_read_32 : decode cX0_read 32 = .ok (.getfield 7, 3) := by decide +kernel
theorem dX0_read_35 : decode cX0_read 35 = .ok (.iload_n 1, 1) := by decide +kernel
theorem dX0_read_36 : decode cX0_read 36 = .ok (.saload, 1) := by decide +kernel
theorem dX0_read_37 : decode cX0_read 37 = .ok (.iload_n 2, 1) := by decide +kernel
theorem dX0_read_38 : decode cX0_read 38 = .ok (.invokevirtual 24, 3) := by decide +kernel
theorem dX0_read_41 : decode cX0_read 41 = .ok (.istore_n 3, 1) := by decide +kernel
theorem dX0_read_42 : decode cX0_read 42 = .ok (.aload_n 0, 1) := by decide +kernel
theorem dX0_read_43 : decode cX0_read 43 = .ok (.iload_n 3, 1) := by decide +kernel
theorem dX0_read_44 : decode cX0_read 44 = .ok (.invokevirtual 28, 3) := by decide +kernel
theorem dX0_read_47 : decode cX0_read 47 = .ok (.ireturn, 1) := by decide +kernel
abbrev cX0_wrongBit : ByteArray := prog_1_method_21_code
def yX0_wrongBit : MethodName := ⟨RX0, "wrongBit", "(I)I"⟩
theorem dX0_wrongBit_0 : decode cX0_wrongBit 0 = .ok (.aload_n 0, 1) := by decide +kernel
theorem dX0_wrongBit_1 : decode cX0_wrongBit 1 = .ok (.iload_n 1, 1) := by decide +kernel
theorem dX0_wrongBit_2 : decode cX0_wrongBit 2 = .ok (.invokevirtual 41, 3) := by decide +kernel
theorem dX0_wrongBit_5 : decode cX0_wrongBit 5 = .ok (.istore_n 2, 1) := by decide +kernel
theorem dX0_wrongBit_6 : decode cX0_wrongBit 6 = .ok (.aload_n 0, 1) := by decide +kernel
theorem dX0_wrongBit_7 : decode cX0_wrongBit 7 = .ok (.iload_n 1, 1) := by decide +kernel
theorem dX0_wrongBit_8 : decode cX0_wrongBit 8 = .ok (.invokevirtual 44, 3) := by decide +kernel
theorem dX0_wrongBit_11 : decode cX0_wrongBit 11 = .ok (.istore_n 3, 1) := by decide +kernel
theorem dX0_wrongBit_12 : decode cX0_wrongBit 12 = .ok (.iload_n 3, 1) := by decide +kernel
theorem dX0_wrongBit_13 : decode cX0_wrongBit 13 = .ok (.ifCond .ne 15, 3) := by decide +kernel
theorem dX0_wrongBit_16 : decode cX0_wrongBit 16 = .ok (.iload_n 2, 1) := by decide +kernel
theorem dX0_wrongBit_17 : decode cX0_wrongBit 17 = .ok (.ifCond .ne 8, 3) := by decide +kernel
theorem dX0_wrongBit_20 : decode cX0_wrongBit 20 = .ok (.bipush 13, 2) := by decide +kernel
theorem dX0_wrongBit_22 : decode cX0_wrongBit 22 = .ok (.goto 5, 3) := by decide +kernel
theorem dX0_wrongBit_25 : decode cX0_wrongBit 25 = .ok (.bipush (-2), 2) := by decide +kernel
theorem dX0_wrongBit_27 : decode cX0_wrongBit 27 = .ok (.ireturn, 1) := by decide +kernel
theorem dX0_wrongBit_28 : decode cX0_wrongBit 28 = .ok (.iload_n 2, 1) := by decide +kernel
theorem dX0_wrongBit_29 : decode cX0_wrongBit 29 = .ok (.bipush 12, 2) := by decide +kernel
theorem dX0_wrongBit_31 : decode cX0_wrongBit 31 = .ok (.if_icmp .gt 7, 3) := by decide +kernel
theorem dX0_wrongBit_34 : decode cX0_wrongBit 34 = .ok (.iload_n 2, 1) := by decide +kernel
theorem dX0_wrongBit_35 : decode cX0_wrongBit 35 = .ok (.goto 5, 3) := by decide +kernel
theorem dX0_wrongBit_38 : decode cX0_wrongBit 38 = .ok (.bipush (-2), 2) := by decide +kernel
theorem dX0_wrongBit_40 : decode cX0_wrongBit 40 = .ok (.ireturn, 1) := by decide +kernel
abbrev cX0_mended : ByteArray := prog_1_method_22_code
def yX0_mended : MethodName := ⟨RX0, "mended", "(II)I"⟩
theorem dX0_mended_0 : decode cX0_mended 0 = .ok (.iload_n 2, 1) := by decide +kernel
theorem dX0_mended_1 : decode cX0_mended 1 = .ok (.bipush 13, 2) := by decide +kernel
theorem dX0_mended_3 : decode cX0_mended 3 = .ok (.if_icmp .ne 7, 3) := by decide +kernel
theorem dX0_mended_6 : decode cX0_mended 6 = .ok (.iload_n 1, 1) := by decide +kernel
theorem dX0_mended_7 : decode cX0_mended 7 = .ok (.goto 8, 3) := by decide +kernel
theorem dX0_mended_10 : decode cX0_mended 10 = .ok (.iload_n 1, 1) := by decide +kernel
theorem dX0_mended_11 : decode cX0_mended 11 = .ok (.iconst 1, 1) := by decide +kernel
theorem dX0_mended_12 : decode cX0_mended 12 = .ok (.iload_n 2, 1) := by decide +kernel
theorem dX0_mended_13 : decode cX0_mended 13 = .ok (.ishl, 1) := by decide +kernel
theorem dX0_mended_14 : decode cX0_mended 14 = .ok (.ixor, 1) := by decide +kernel
theorem dX0_mended_15 : decode cX0_mended 15 = .ok (.ireturn, 1) := by decide +kernel
abbrev cX0_byteIn : ByteArray := prog_1_method_19_code
def yX0_byteIn : MethodName := ⟨RX0, "byteIn", "(I)I"⟩
theorem dX0_byteIn_0 : decode cX0_byteIn 0 = .ok (.iconst 0, 1) := by decide +kernel
theorem dX0_byteIn_1 : decode cX0_byteIn 1 = .ok (.istore_n 2, 1) := by decide +kernel
theorem dX0_byteIn_2 : decode cX0_byteIn 2 = .ok (.iconst 0, 1) := by decide +kernel
theorem dX0_byteIn_3 : decode cX0_byteIn 3 = .ok (.istore_n 3, 1) := by decide +kernel
theorem dX0_byteIn_4 : decode cX0_byteIn 4 = .ok (.iconst 3, 1) := by decide +kernel
theorem dX0_byteIn_5 : decode cX0_byteIn 5 = .ok (.istore 4, 2) := by decide +kernel
theorem dX0_byteIn_7 : decode cX0_byteIn 7 = .ok (.iload 4, 2) := by decide +kernel
theorem dX0_byteIn_9 : decode cX0_byteIn 9 = .ok (.bipush 13, 2) := by decide +kernel
theorem dX0_byteIn_11 : decode cX0_byteIn 11 = .ok (.if_icmp .ge 36, 3) := by decide +kernel
theorem dX0_byteIn_14 : decode cX0_byteIn 14 = .ok (.iload 4, 2) := by decide +kernel
theorem dX0_byteIn_16 : decode cX0_byteIn 16 = .ok (.iload 4, 2) := by decide +kernel
theorem dX0_byteIn_18 : decode cX0_byteIn 18 = .ok (.iconst 1, 1) := by decide +kernel
theorem dX0_byteIn_19 : decode cX0_byteIn 19 = .ok (.isub, 1) := by decide +kernel
theorem dX0_byteIn_20 : decode cX0_byteIn 20 = .ok (.iand, 1) := by decide +kernel
theorem dX0_byteIn_21 : decode cX0_byteIn 21 = .ok (.ifCond .ne 6, 3) := by decide +kernel
theorem dX0_byteIn_24 : decode cX0_byteIn 24 = .ok (.goto 17, 3) := by decide +kernel
theorem dX0_byteIn_27 : decode cX0_byteIn 27 = .ok (.iload_n 2, 1) := by decide +kernel
theorem dX0_byteIn_28 : decode cX0_byteIn 28 = .ok (.iload_n 1, 1) := by decide +kernel
theorem dX0_byteIn_29 : decode cX0_byteIn 29 = .ok (.iload 4, 2) := by decide +kernel
theorem dX0_byteIn_31 : decode cX0_byteIn 31 = .ok (.ishr, 1) := by decide +kernel
theorem dX0_byteIn_32 : decode cX0_byteIn 32 = .ok (.iconst 1, 1) := by decide +kernel
theorem dX0_byteIn_33 : decode cX0_byteIn 33 = .ok (.iand, 1) := by decide +kernel
theorem dX0_byteIn_34 : decode cX0_byteIn 34 = .ok (.iload_n 3, 1) := by decide +kernel
theorem dX0_byteIn_35 : decode cX0_byteIn 35 = .ok (.ishl, 1) := by decide +kernel
theorem dX0_byteIn_36 : decode cX0_byteIn 36 = .ok (.ior, 1) := by decide +kernel
theorem dX0_byteIn_37 : decode cX0_byteIn 37 = .ok (.istore_n 2, 1) := by decide +kernel
theorem dX0_byteIn_38 : decode cX0_byteIn 38 = .ok (.iinc 3 1, 3) := by decide +kernel
theorem dX0_byteIn_41 : decode cX0_byteIn 41 = .ok (.iinc 4 1, 3) := by decide +kernel
theorem dX0_byteIn_44 : decode cX0_byteIn 44 = .ok (.goto (-37), 3) := by decide +kernel
theorem dX0_byteIn_47 : decode cX0_byteIn 47 = .ok (.iload_n 2, 1) := by decide +kernel
theorem dX0_byteIn_48 : decode cX0_byteIn 48 = .ok (.ireturn, 1) := by decide +kernel
abbrev cX0_repair : ByteArray := prog_1_method_5_code
def yX0_repair : MethodName := ⟨RX0, "repair", "(I)I"⟩
theorem dX0_repair_0 : decode cX0_repair 0 = .ok (.aload_n 0, 1) := by decide +kernel
theorem dX0_repair_1 : decode cX0_repair 1 = .ok (.iload_n 1, 1) := by decide +kernel
theorem dX0_repair_2 : decode cX0_repair 2 = .ok (.invokevirtual 13, 3) := by decide +kernel
theorem dX0_repair_5 : decode cX0_repair 5 = .ok (.ifCond .ne 5, 3) := by decide +kernel
theorem dX0_repair_8 : decode cX0_repair 8 = .ok (.iconst (-1), 1) := by decide +kernel
theorem dX0_repair_9 : decode cX0_repair 9 = .ok (.ireturn, 1) := by decide +kernel
theorem dX0_repair_10 : decode cX0_repair 10 = .ok (.aload_n 0, 1) := by decide +kernel
theorem dX0_repair_11 : decode cX0_repair 11 = .ok (.aload_n 0, 1) := by decide +kernel
theorem dX0_repair_12 : decode cX0_repair 12 = .ok (.getfield 7, 3) := by decide +kernel
theorem dX0_repair_15 : decode cX0_repair 15 = .ok (.iload_n 1, 1) := by decide +kernel
theorem dX0_repair_16 : decode cX0_repair 16 = .ok (.saload, 1) := by decide +kernel
theorem dX0_repair_17 : decode cX0_repair 17 = .ok (.invokevirtual 21, 3) := by decide +kernel
theorem dX0_repair_20 : decode cX0_repair 20 = .ok (.istore_n 2, 1) := by decide +kernel
theorem dX0_repair_21 : decode cX0_repair 21 = .ok (.iload_n 2, 1) := by decide +kernel
theorem dX0_repair_22 : decode cX0_repair 22 = .ok (.ifCond .lt 21, 3) := by decide +kernel
theorem dX0_repair_25 : decode cX0_repair 25 = .ok (.aload_n 0, 1) := by decide +kernel
theorem dX0_repair_26 : decode cX0_repair 26 = .ok (.getfield 7, 3) := by decide +kernel
theorem dX0_repair_29 : decode cX0_repair 29 = .ok (.iload_n 1, 1) := by decide +kernel
theorem dX0_repair_30 : decode cX0_repair 30 = .ok (.aload_n 0, 1) := by decide +kernel
theorem dX0_repair_31 : decode cX0_repair 31 = .ok (.aload_n 0, 1) := by decide +kernel
theorem dX0_repair_32 : decode cX0_repair 32 = .ok (.getfield 7, 3) := by decide +kernel
theorem dX0_repair_35 : decode cX0_repair 35 = .ok (.iload_n 1, 1) := by decide +kernel
theorem dX0_repair_36 : decode cX0_repair 36 = .ok (.saload, 1) := by decide +kernel
theorem dX0_repair_37 : decode cX0_repair 37 = .ok (.iload_n 2, 1) := by decide +kernel
theorem dX0_repair_38 : decode cX0_repair 38 = .ok (.invokevirtual 24, 3) := by decide +kernel
theorem dX0_repair_41 : decode cX0_repair 41 = .ok (.i2s, 1) := by decide +kernel
theorem dX0_repair_42 : decode cX0_repair 42 = .ok (.sastore, 1) := by decide +kernel
theorem dX0_repair_43 : decode cX0_repair 43 = .ok (.iload_n 2, 1) := by decide +kernel
theorem dX0_repair_44 : decode cX0_repair 44 = .ok (.ireturn, 1) := by decide +kernel
abbrev cX0_scrub : ByteArray := prog_1_method_6_code
def yX0_scrub : MethodName := ⟨RX0, "scrub", "(I)I"⟩
theorem dX0_scrub_0 : decode cX0_scrub 0 = .ok (.iload_n 1, 1) := by decide +kernel
theorem dX0_scrub_1 : decode cX0_scrub 1 = .ok (.ifCond .ge 7, 3) := by decide +kernel
theorem dX0_scrub_4 : decode cX0_scrub 4 = .ok (.iconst 0, 1) := by decide +kernel
theorem dX0_scrub_5 : decode cX0_scrub 5 = .ok (.goto 15, 3) := by decide +kernel
theorem dX0_scrub_8 : decode cX0_scrub 8 = .ok (.iload_n 1, 1) := by decide +kernel
theorem dX0_scrub_9 : decode cX0_scrub 9 = .ok (.bipush 32, 2) := by decide +kernel
theorem dX0_scrub_11 : decode cX0_scrub 11 = .ok (.if_icmp .le 8, 3) := by decide +kernel
theorem dX0_scrub_14 : decode cX0_scrub 14 = .ok (.bipush 32, 2) := by decide +kernel
theorem dX0_scrub_16 : decode cX0_scrub 16 = .ok (.goto 4, 3) := by decide +kernel
theorem dX0_scrub_19 : decode cX0_scrub 19 = .ok (.iload_n 1, 1) := by decide +kernel
theorem dX0_scrub_20 : decode cX0_scrub 20 = .ok (.istore_n 2, 1) := by decide +kernel
theorem dX0_scrub_21 : decode cX0_scrub 21 = .ok (.iconst 0, 1) := by decide +kernel
theorem dX0_scrub_22 : decode cX0_scrub 22 = .ok (.istore_n 3, 1) := by decide +kernel
theorem dX0_scrub_23 : decode cX0_scrub 23 = .ok (.iconst 0, 1) := by decide +kernel
theorem dX0_scrub_24 : decode cX0_scrub 24 = .ok (.istore 4, 2) := by decide +kernel
theorem dX0_scrub_26 : decode cX0_scrub 26 = .ok (.iload 4, 2) := by decide +kernel
theorem dX0_scrub_28 : decode cX0_scrub 28 = .ok (.iload_n 2, 1) := by decide +kernel
theorem dX0_scrub_29 : decode cX0_scrub 29 = .ok (.if_icmp .ge 47, 3) := by decide +kernel
theorem dX0_scrub_32 : decode cX0_scrub 32 = .ok (.aload_n 0, 1) := by decide +kernel
theorem dX0_scrub_33 : decode cX0_scrub 33 = .ok (.aload_n 0, 1) := by decide +kernel
theorem dX0_scrub_34 : decode cX0_scrub 34 = .ok (.getfield 31, 3) := by decide +kernel
theorem dX0_scrub_37 : decode cX0_scrub 37 = .ok (.invokevirtual 35, 3) := by decide +kernel
theorem dX0_scrub_40 : decode cX0_scrub 40 = .ok (.istore 5, 2) := by decide +kernel
theorem dX0_scrub_42 : decode cX0_scrub 42 = .ok (.iload 5, 2) := by decide +kernel
theorem dX0_scrub_44 : decode cX0_scrub 44 = .ok (.ifCond .lt 13, 3) := by decide +kernel
theorem dX0_scrub_47 : decode cX0_scrub 47 = .ok (.iload 5, 2) := by decide +kernel
theorem dX0_scrub_49 : decode cX0_scrub 49 = .ok (.bipush 13, 2) := by decide +kernel
theorem dX0_scrub_51 : decode cX0_scrub 51 = .ok (.if_icmp .ge 6, 3) := by decide +kernel
theorem dX0_scrub_54 : decode cX0_scrub 54 = .ok (.iinc 3 1, 3) := by decide +kernel
theorem dX0_scrub_57 : decode cX0_scrub 57 = .ok (.aload_n 0, 1) := by decide +kernel
theorem dX0_scrub_58 : decode cX0_scrub 58 = .ok (.aload_n 0, 1) := by decide +kernel
theorem dX0_scrub_59 : decode cX0_scrub 59 = .ok (.getfield 31, 3) := by decide +kernel
theorem dX0_scrub_62 : decode cX0_scrub 62 = .ok (.iconst 1, 1) := by decide +kernel
theorem dX0_scrub_63 : decode cX0_scrub 63 = .ok (.iadd, 1) := by decide +kernel
theorem dX0_scrub_64 : decode cX0_scrub 64 = .ok (.bipush 15, 2) := by decide +kernel
theorem dX0_scrub_66 : decode cX0_scrub 66 = .ok (.iand, 1) := by decide +kernel
theorem dX0_scrub_67 : decode cX0_scrub 67 = .ok (.putfield 31, 3) := by decide +kernel
theorem dX0_scrub_70 : decode cX0_scrub 70 = .ok (.iinc 4 1, 3) := by decide +kernel
theorem dX0_scrub_73 : decode cX0_scrub 73 = .ok (.goto (-47), 3) := by decide +kernel
theorem dX0_scrub_76 : decode cX0_scrub 76 = .ok (.iload_n 3, 1) := by decide +kernel
theorem dX0_scrub_77 : decode cX0_scrub 77 = .ok (.ireturn, 1) := by decide +kernel
abbrev cX0_hand : ByteArray := prog_1_method_7_code
def yX0_hand : MethodName := ⟨RX0, "hand", "()I"⟩
theorem dX0_hand_0 : decode cX0_hand 0 = .ok (.aload_n 0, 1) := by decide +kernel
theorem dX0_hand_1 : decode cX0_hand 1 = .ok (.getfield 31, 3) := by decide +kernel
theorem dX0_hand_4 : decode cX0_hand 4 = .ok (.ireturn, 1) := by decide +kernel
abbrev cX0_broken : ByteArray := prog_1_method_8_code
def yX0_broken : MethodName := ⟨RX0, "broken", "()I"⟩
theorem dX0_broken_0 : decode cX0_broken 0 = .ok (.iconst 0, 1) := by decide +kernel
theorem dX0_broken_1 : decode cX0_broken 1 = .ok (.istore_n 1, 1) := by decide +kernel
theorem dX0_broken_2 : decode cX0_broken 2 = .ok (.iconst 0, 1) := by decide +kernel
theorem dX0_broken_3 : decode cX0_broken 3 = .ok (.istore_n 2, 1) := by decide +kernel
theorem dX0_broken_4 : decode cX0_broken 4 = .ok (.iload_n 2, 1) := by decide +kernel
theorem dX0_broken_5 : decode cX0_broken 5 = .ok (.bipush 16, 2) := by decide +kernel
theorem dX0_broken_7 : decode cX0_broken 7 = .ok (.if_icmp .ge 27, 3) := by decide +kernel
theorem dX0_broken_10 : decode cX0_broken 10 = .ok (.aload_n 0, 1) := by decide +kernel
theorem dX0_broken_11 : decode cX0_broken 11 = .ok (.aload_n 0, 1) := by decide +kernel
theorem dX0_broken_12 : decode cX0_broken 12 = .ok (.getfield 7, 3) := by decide +kernel
theorem dX0_broken_15 : decode cX0_broken 15 = .ok (.iload_n 2, 1) := by decide +kernel
theorem dX0_broken_16 : decode cX0_broken 16 = .ok (.saload, 1) := by decide +kernel
theorem dX0_broken_17 : decode cX0_broken 17 = .ok (.invokevirtual 21, 3) := by decide +kernel
theorem dX0_broken_20 : decode cX0_broken 20 = .ok (.bipush (-2), 2) := by decide +kernel
theorem dX0_broken_22 : decode cX0_broken 22 = .ok (.if_icmp .ne 6, 3) := by decide +kernel
theorem dX0_broken_25 : decode cX0_broken 25 = .ok (.iinc 1 1, 3) := by decide +kernel
theorem dX0_broken_28 : decode cX0_broken 28 = .ok (.iinc 2 1, 3) := by decide +kernel
theorem dX0_broken_31 : decode cX0_broken 31 = .ok (.goto (-27), 3) := by decide +kernel
theorem dX0_broken_34 : decode cX0_broken 34 = .ok (.iload_n 1, 1) := by decide +kernel
theorem dX0_broken_35 : decode cX0_broken 35 = .ok (.ireturn, 1) := by decide +kernel
abbrev cX0_marred : ByteArray := prog_1_method_9_code
def yX0_marred : MethodName := ⟨RX0, "marred", "()I"⟩
theorem dX0_marred_0 : decode cX0_marred 0 = .ok (.iconst 0, 1) := by decide +kernel
theorem dX0_marred_1 : decode cX0_marred 1 = .ok (.istore_n 1, 1) := by decide +kernel
theorem dX0_marred_2 : decode cX0_marred 2 = .ok (.iconst 0, 1) := by decide +kernel
theorem dX0_marred_3 : decode cX0_marred 3 = .ok (.istore_n 2, 1) := by decide +kernel
theorem dX0_marred_4 : decode cX0_marred 4 = .ok (.iload_n 2, 1) := by decide +kernel
theorem dX0_marred_5 : decode cX0_marred 5 = .ok (.bipush 16, 2) := by decide +kernel
theorem dX0_marred_7 : decode cX0_marred 7 = .ok (.if_icmp .ge 33, 3) := by decide +kernel
theorem dX0_marred_10 : decode cX0_marred 10 = .ok (.aload_n 0, 1) := by decide +kernel
theorem dX0_marred_11 : decode cX0_marred 11 = .ok (.aload_n 0, 1) := by decide +kernel
theorem dX0_marred_12 : decode cX0_marred 12 = .ok (.getfield 7, 3) := by decide +kernel
theorem dX0_marred_15 : decode cX0_marred 15 = .ok (.iload_n 2, 1) := by decide +kernel
theorem dX0_marred_16 : decode cX0_marred 16 = .ok (.saload, 1) := by decide +kernel
theorem dX0_marred_17 : decode cX0_marred 17 = .ok (.invokevirtual 21, 3) := by decide +kernel
theorem dX0_marred_20 : decode cX0_marred 20 = .ok (.istore_n 3, 1) := by decide +kernel
theorem dX0_marred_21 : decode cX0_marred 21 = .ok (.iload_n 3, 1) := by decide +kernel
theorem dX0_marred_22 : decode cX0_marred 22 = .ok (.ifCond .lt 12, 3) := by decide +kernel
theorem dX0_marred_25 : decode cX0_marred 25 = .ok (.iload_n 3, 1) := by decide +kernel
theorem dX0_marred_26 : decode cX0_marred 26 = .ok (.bipush 13, 2) := by decide +kernel
theorem dX0_marred_28 : decode cX0_marred 28 = .ok (.if_icmp .ge 6, 3) := by decide +kernel
theorem dX0_marred_31 : decode cX0_marred 31 = .ok (.iinc 1 1, 3) := by decide +kernel
theorem dX0_marred_34 : decode cX0_marred 34 = .ok (.iinc 2 1, 3) := by decide +kernel
theorem dX0_marred_37 : decode cX0_marred 37 = .ok (.goto (-33), 3) := by decide +kernel
theorem dX0_marred_40 : decode cX0_marred 40 = .ok (.iload_n 1, 1) := by decide +kernel
theorem dX0_marred_41 : decode cX0_marred 41 = .ok (.ireturn, 1) := by decide +kernel
abbrev cX0_raw : ByteArray := prog_1_method_10_code
def yX0_raw : MethodName := ⟨RX0, "raw", "(I)I"⟩
theorem dX0_raw_0 : decode cX0_raw 0 = .ok (.aload_n 0, 1) := by decide +kernel
theorem dX0_raw_1 : decode cX0_raw 1 = .ok (.iload_n 1, 1) := by decide +kernel
theorem dX0_raw_2 : decode cX0_raw 2 = .ok (.invokevirtual 13, 3) := by decide +kernel
theorem dX0_raw_5 : decode cX0_raw 5 = .ok (.ifCond .eq 12, 3) := by decide +kernel
theorem dX0_raw_8 : decode cX0_raw 8 = .ok (.aload_n 0, 1) := by decide +kernel
theorem dX0_raw_9 : decode cX0_raw 9 = .ok (.getfield 7, 3) := by decide +kernel
theorem dX0_raw_12 : decode cX0_raw 12 = .ok (.iload_n 1, 1) := by decide +kernel
theorem dX0_raw_13 : decode cX0_raw 13 = .ok (.saload, 1) := by decide +kernel
theorem dX0_raw_14 : decode cX0_raw 14 = .ok (.goto 4, 3) := by decide +kernel
theorem dX0_raw_17 : decode cX0_raw 17 = .ok (.iconst (-1), 1) := by decide +kernel
theorem dX0_raw_18 : decode cX0_raw 18 = .ok (.ireturn, 1) := by decide +kernel
abbrev cX0_distance : ByteArray := prog_1_method_11_code
def yX0_distance : MethodName := ⟨RX0, "distance", "(II)I"⟩
theorem dX0_distance_0 : decode cX0_distance 0 = .ok (.aload_n 0, 1) := by decide +kernel
theorem dX0_distance_1 : decode cX0_distance 1 = .ok (.iload_n 1, 1) := by decide +kernel
theorem dX0_distance_2 : decode cX0_distance 2 = .ok (.invokevirtual 13, 3) := by decide +kernel
theorem dX0_distance_5 : decode cX0_distance 5 = .ok (.ifCond .eq 14, 3) := by decide +kernel
theorem dX0_distance_8 : decode cX0_distance 8 = .ok (.iload_n 2, 1) := by decide +kernel
theorem dX0_distance_9 : decode cX0_distance 9 = .ok (.ifCond .lt 10, 3) := by decide +kernel
theorem dX0_distance_12 : decode cX0_distance 12 = .ok (.iload_n 2, 1) := by decide +kernel
theorem dX0_distance_13 : decode cX0_distance 13 = .ok (.sipush 255, 3) := by decide +kernel
theorem dX0_distance_16 : decode cX0_distance 16 = .ok (.if_icmp .le 5, 3) := by decide +kernel
theorem dX0_distance_19 : decode cX0_distance 19 = .ok (.iconst (-1), 1) := by decide +kernel
theorem dX0_distance_20 : decode cX0_distance 20 = .ok (.ireturn, 1) := by decide +kernel
theorem dX0_distance_21 : decode cX0_distance 21 = .ok (.aload_n 0, 1) := by decide +kernel
theorem dX0_distance_22 : decode cX0_distance 22 = .ok (.iload_n 2, 1) := by decide +kernel
theorem dX0_distance_23 : decode cX0_distance 23 = .ok (.invokevirtual 17, 3) := by decide +kernel
theorem dX0_distance_26 : decode cX0_distance 26 = .ok (.istore_n 3, 1) := by decide +kernel
theorem dX0_distance_27 : decode cX0_distance 27 = .ok (.aload_n 0, 1) := by decide +kernel
theorem dX0_distance_28 : decode cX0_distance 28 = .ok (.aload_n 0, 1) := by decide +kernel
theorem dX0_distance_29 : decode cX0_distance 29 = .ok (.getfield 7, 3) := by decide +kernel
theorem dX0_distance_32 : decode cX0_distance 32 = .ok (.iload_n 1, 1) := by decide +kernel
theorem dX0_distance_33 : decode cX0_distance 33 = .ok (.saload, 1) := by decide +kernel
theorem dX0_distance_34 : decode cX0_distance 34 = .ok (.iload_n 3, 1) := by decide +kernel
theorem dX0_distance_35 : decode cX0_distance 35 = .ok (.ixor, 1) := by decide +kernel
theorem dX0_distance_36 : decode cX0_distance 36 = .ok (.invokevirtual 38, 3) := by decide +kernel
theorem dX0_distance_39 : decode cX0_distance 39 = .ok (.ireturn, 1) := by decide +kernel
abbrev cX0_nearest : ByteArray := prog_1_method_12_code
def yX0_nearest : MethodName := ⟨RX0, "nearest", "(I)I"⟩
theorem dX0_nearest_0 : decode cX0_nearest 0 = .ok (.aload_n 0, 1) := by decide +kernel
theorem dX0_nearest_1 : decode cX0_nearest 1 = .ok (.iload_n 1, 1) := by decide +kernel
theorem dX0_nearest_2 : decode cX0_nearest 2 = .ok (.invokevirtual 13, 3) := by decide +kernel
theorem dX0_nearest_5 : decode cX0_nearest 5 = .ok (.ifCond .ne 5, 3) := by decide +kernel
theorem dX0_nearest_8 : decode cX0_nearest 8 = .ok (.iconst (-1), 1) := by decide +kernel
theorem dX0_nearest_9 : decode cX0_nearest 9 = .ok (.ireturn, 1) := by decide +kernel
theorem dX0_nearest_10 : decode cX0_nearest 10 = .ok (.aload_n 0, 1) := by decide +kernel
theorem dX0_nearest_11 : decode cX0_nearest 11 = .ok (.getfield 7, 3) := by decide +kernel
theorem dX0_nearest_14 : decode cX0_nearest 14 = .ok (.iload_n 1, 1) := by decide +kernel
theorem dX0_nearest_15 : decode cX0_nearest 15 = .ok (.saload, 1) := by decide +kernel
theorem dX0_nearest_16 : decode cX0_nearest 16 = .ok (.istore_n 2, 1) := by decide +kernel
theorem dX0_nearest_17 : decode cX0_nearest 17 = .ok (.aload_n 0, 1) := by decide +kernel
theorem dX0_nearest_18 : decode cX0_nearest 18 = .ok (.iload_n 2, 1) := by decide +kernel
theorem dX0_nearest_19 : decode cX0_nearest 19 = .ok (.invokevirtual 21, 3) := by decide +kernel
theorem dX0_nearest_22 : decode cX0_nearest 22 = .ok (.istore_n 3, 1) := by decide +kernel
theorem dX0_nearest_23 : decode cX0_nearest 23 = .ok (.iload_n 3, 1) := by decide +kernel
theorem dX0_nearest_24 : decode cX0_nearest 24 = .ok (.bipush 13, 2) := by decide +kernel
theorem dX0_nearest_26 : decode cX0_nearest 26 = .ok (.if_icmp .ne 5, 3) := by decide +kernel
theorem dX0_nearest_29 : decode cX0_nearest 29 = .ok (.iconst 1, 1) := by decide +kernel
theorem dX0_nearest_30 : decode cX0_nearest 30 = .ok (.ireturn, 1) := by decide +kernel
theorem dX0_nearest_31 : decode cX0_nearest 31 = .ok (.iload_n 3, 1) := by decide +kernel
theorem dX0_nearest_32 : decode cX0_nearest 32 = .ok (.ifCond .lt 7, 3) := by decide +kernel
theorem dX0_nearest_35 : decode cX0_nearest 35 = .ok (.sipush 1001, 3) := by decide +kernel
theorem dX0_nearest_38 : decode cX0_nearest 38 = .ok (.ireturn, 1) := by decide +kernel
theorem dX0_nearest_39 : decode cX0_nearest 39 = .ok (.aload_n 0, 1) := by decide +kernel
theorem dX0_nearest_40 : decode cX0_nearest 40 = .ok (.iload_n 2, 1) := by decide +kernel
theorem dX0_nearest_41 : decode cX0_nearest 41 = .ok (.invokevirtual 41, 3) := by decide +kernel
theorem dX0_nearest_44 : decode cX0_nearest 44 = .ok (.istore 4, 2) := by decide +kernel
theorem dX0_nearest_46 : decode cX0_nearest 46 = .ok (.aload_n 0, 1) := by decide +kernel
theorem dX0_nearest_47 : decode cX0_nearest 47 = .ok (.iload_n 2, 1) := by decide +kernel
theorem dX0_nearest_48 : decode cX0_nearest 48 = .ok (.invokevirtual 44, 3) := by decide +kernel
theorem dX0_nearest_51 : decode cX0_nearest 51 = .ok (.ifCond .eq 14, 3) := by decide +kernel
theorem dX0_nearest_54 : decode cX0_nearest 54 = .ok (.sipush 3000, 3) := by decide +kernel
theorem dX0_nearest_57 : decode cX0_nearest 57 = .ok (.aload_n 0, 1) := by decide +kernel
theorem dX0_nearest_58 : decode cX0_nearest 58 = .ok (.iload 4, 2) := by decide +kernel
theorem dX0_nearest_60 : decode cX0_nearest 60 = .ok (.invokevirtual 47, 3) := by decide +kernel
theorem dX0_nearest_63 : decode cX0_nearest 63 = .ok (.iadd, 1) := by decide +kernel
theorem dX0_nearest_64 : decode cX0_nearest 64 = .ok (.ireturn, 1) := by decide +kernel
theorem dX0_nearest_65 : decode cX0_nearest 65 = .ok (.sipush 2000, 3) := by decide +kernel
theorem dX0_nearest_68 : decode cX0_nearest 68 = .ok (.aload_n 0, 1) := by decide +kernel
theorem dX0_nearest_69 : decode cX0_nearest 69 = .ok (.iload 4, 2) := by decide +kernel
theorem dX0_nearest_71 : decode cX0_nearest 71 = .ok (.invokevirtual 50, 3) := by decide +kernel
theorem dX0_nearest_74 : decode cX0_nearest 74 = .ok (.iadd, 1) := by decide +kernel
theorem dX0_nearest_75 : decode cX0_nearest 75 = .ok (.ireturn, 1) := by decide +kernel
abbrev cX0_waysOfThree : ByteArray := prog_1_method_24_code
def yX0_waysOfThree : MethodName := ⟨RX0, "waysOfThree", "(I)I"⟩
theorem dX0_waysOfThree_0 : decode cX0_waysOfThree 0 = .ok (.iconst 0, 1) := by decide +kernel
theorem dX0_waysOfThree_1 : decode cX0_waysOfThree 1 = .ok (.istore_n 2, 1) := by decide +kernel
theorem dX0_waysOfThree_2 : decode cX0_waysOfThree 2 = .ok (.iconst 0, 1) := by decide +kernel
theorem dX0_waysOfThree_3 : decode cX0_waysOfThree 3 = .ok (.istore_n 3, 1) := by decide +kernel
theorem dX0_waysOfThree_4 : decode cX0_waysOfThree 4 = .ok (.iload_n 3, 1) := by decide +kernel
theorem dX0_waysOfThree_5 : decode cX0_waysOfThree 5 = .ok (.bipush 13, 2) := by decide +kernel
theorem dX0_waysOfThree_7 : decode cX0_waysOfThree 7 = .ok (.if_icmp .ge 52, 3) := by decide +kernel
theorem dX0_waysOfThree_10 : decode cX0_waysOfThree 10 = .ok (.iload_n 3, 1) := by decide +kernel
theorem dX0_waysOfThree_11 : decode cX0_waysOfThree 11 = .ok (.iconst 1, 1) := by decide +kernel
theorem dX0_waysOfThree_12 : decode cX0_waysOfThree 12 = .ok (.iadd, 1) := by decide +kernel
theorem dX0_waysOfThree_13 : decode cX0_waysOfThree 13 = .ok (.istore 4, 2) := by decide +kernel
theorem dX0_waysOfThree_15 : decode cX0_waysOfThree 15 = .ok (.iload 4, 2) := by decide +kernel
theorem dX0_waysOfThree_17 : decode cX0_waysOfThree 17 = .ok (.bipush 13, 2) := by decide +kernel
theorem dX0_waysOfThree_19 : decode cX0_waysOfThree 19 = .ok (.if_icmp .ge 34, 3) := by decide +kernel
theorem dX0_waysOfThree_22 : decode cX0_waysOfThree 22 = .ok (.iload_n 3, 1) := by decide +kernel
theorem dX0_waysOfThree_23 : decode cX0_waysOfThree 23 = .ok (.iload 4, 2) := by decide +kernel
theorem dX0_waysOfThree_25 : decode cX0_waysOfThree 25 = .ok (.ixor, 1) := by decide +kernel
theorem dX0_waysOfThree_26 : decode cX0_waysOfThree 26 = .ok (.iload_n 1, 1) := by decide +kernel
theorem dX0_waysOfThree_27 : decode cX0_waysOfThree 27 = .ok (.ixor, 1) := by decide +kernel
theorem dX0_waysOfThree_28 : decode cX0_waysOfThree 28 = .ok (.istore 5, 2) := by decide +kernel
theorem dX0_waysOfThree_30 : decode cX0_waysOfThree 30 = .ok (.iload 5, 2) := by decide +kernel
theorem dX0_waysOfThree_32 : decode cX0_waysOfThree 32 = .ok (.iload 4, 2) := by decide +kernel
theorem dX0_waysOfThree_34 : decode cX0_waysOfThree 34 = .ok (.if_icmp .le 13, 3) := by decide +kernel
theorem dX0_waysOfThree_37 : decode cX0_waysOfThree 37 = .ok (.iload 5, 2) := by decide +kernel
theorem dX0_waysOfThree_39 : decode cX0_waysOfThree 39 = .ok (.bipush 13, 2) := by decide +kernel
theorem dX0_waysOfThree_41 : decode cX0_waysOfThree 41 = .ok (.if_icmp .ge 6, 3) := by decide +kernel
theorem dX0_waysOfThree_44 : decode cX0_waysOfThree 44 = .ok (.iinc 2 1, 3) := by decide +kernel
theorem dX0_waysOfThree_47 : decode cX0_waysOfThree 47 = .ok (.iinc 4 1, 3) := by decide +kernel
theorem dX0_waysOfThree_50 : decode cX0_waysOfThree 50 = .ok (.goto (-35), 3) := by decide +kernel
theorem dX0_waysOfThree_53 : decode cX0_waysOfThree 53 = .ok (.iinc 3 1, 3) := by decide +kernel
theorem dX0_waysOfThree_56 : decode cX0_waysOfThree 56 = .ok (.goto (-52), 3) := by decide +kernel
theorem dX0_waysOfThree_59 : decode cX0_waysOfThree 59 = .ok (.iload_n 2, 1) := by decide +kernel
theorem dX0_waysOfThree_60 : decode cX0_waysOfThree 60 = .ok (.ireturn, 1) := by decide +kernel
abbrev cX0_waysOfTwo : ByteArray := prog_1_method_23_code
def yX0_waysOfTwo : MethodName := ⟨RX0, "waysOfTwo", "(I)I"⟩
theorem dX0_waysOfTwo_0 : decode cX0_waysOfTwo 0 = .ok (.iconst 0, 1) := by decide +kernel
theorem dX0_waysOfTwo_1 : decode cX0_waysOfTwo 1 = .ok (.istore_n 2, 1) := by decide +kernel
theorem dX0_waysOfTwo_2 : decode cX0_waysOfTwo 2 = .ok (.iconst 0, 1) := by decide +kernel
theorem dX0_waysOfTwo_3 : decode cX0_waysOfTwo 3 = .ok (.istore_n 3, 1) := by decide +kernel
theorem dX0_waysOfTwo_4 : decode cX0_waysOfTwo 4 = .ok (.iload_n 3, 1) := by decide +kernel
theorem dX0_waysOfTwo_5 : decode cX0_waysOfTwo 5 = .ok (.bipush 13, 2) := by decide +kernel
theorem dX0_waysOfTwo_7 : decode cX0_waysOfTwo 7 = .ok (.if_icmp .ge 30, 3) := by decide +kernel
theorem dX0_waysOfTwo_10 : decode cX0_waysOfTwo 10 = .ok (.iload_n 3, 1) := by decide +kernel
theorem dX0_waysOfTwo_11 : decode cX0_waysOfTwo 11 = .ok (.iload_n 1, 1) := by decide +kernel
theorem dX0_waysOfTwo_12 : decode cX0_waysOfTwo 12 = .ok (.ixor, 1) := by decide +kernel
theorem dX0_waysOfTwo_13 : decode cX0_waysOfTwo 13 = .ok (.istore 4, 2) := by decide +kernel
theorem dX0_waysOfTwo_15 : decode cX0_waysOfTwo 15 = .ok (.iload 4, 2) := by decide +kernel
theorem dX0_waysOfTwo_17 : decode cX0_waysOfTwo 17 = .ok (.iload_n 3, 1) := by decide +kernel
theorem dX0_waysOfTwo_18 : decode cX0_waysOfTwo 18 = .ok (.if_icmp .le 13, 3) := by decide +kernel
theorem dX0_waysOfTwo_21 : decode cX0_waysOfTwo 21 = .ok (.iload 4, 2) := by decide +kernel
theorem dX0_waysOfTwo_23 : decode cX0_waysOfTwo 23 = .ok (.bipush 13, 2) := by decide +kernel
theorem dX0_waysOfTwo_25 : decode cX0_waysOfTwo 25 = .ok (.if_icmp .ge 6, 3) := by decide +kernel
theorem dX0_waysOfTwo_28 : decode cX0_waysOfTwo 28 = .ok (.iinc 2 1, 3) := by decide +kernel
theorem dX0_waysOfTwo_31 : decode cX0_waysOfTwo 31 = .ok (.iinc 3 1, 3) := by decide +kernel
theorem dX0_waysOfTwo_34 : decode cX0_waysOfTwo 34 = .ok (.goto (-30), 3) := by decide +kernel
theorem dX0_waysOfTwo_37 : decode cX0_waysOfTwo 37 = .ok (.iload_n 2, 1) := by decide +kernel
theorem dX0_waysOfTwo_38 : decode cX0_waysOfTwo 38 = .ok (.ireturn, 1) := by decide +kernel
abbrev cX0_mix : ByteArray := prog_1_method_13_code
def yX0_mix : MethodName := ⟨RX0, "mix", "(II)I"⟩
theorem dX0_mix_0 : decode cX0_mix 0 = .ok (.aload_n 0, 1) := by decide +kernel
theorem dX0_mix_1 : decode cX0_mix 1 = .ok (.iload_n 1, 1) := by decide +kernel
theorem dX0_mix_2 : decode cX0_mix 2 = .ok (.invokevirtual 13, 3) := by decide +kernel
theorem dX0_mix_5 : decode cX0_mix 5 = .ok (.ifCond .eq 11, 3) := by decide +kernel
theorem dX0_mix_8 : decode cX0_mix 8 = .ok (.aload_n 0, 1) := by decide +kernel
theorem dX0_mix_9 : decode cX0_mix 9 = .ok (.iload_n 2, 1) := by decide +kernel
theorem dX0_mix_10 : decode cX0_mix 10 = .ok (.invokevirtual 13, 3) := by decide +kernel
theorem dX0_mix_13 : decode cX0_mix 13 = .ok (.ifCond .ne 5, 3) := by decide +kernel
theorem dX0_mix_16 : decode cX0_mix 16 = .ok (.iconst (-1), 1) := by decide +kernel
theorem dX0_mix_17 : decode cX0_mix 17 = .ok (.ireturn, 1) := by decide +kernel
theorem dX0_mix_18 : decode cX0_mix 18 = .ok (.aload_n 0, 1) := by decide +kernel
theorem dX0_mix_19 : decode cX0_mix 19 = .ok (.iload_n 1, 1) := by decide +kernel
theorem dX0_mix_20 : decode cX0_mix 20 = .ok (.invokevirtual 53, 3) := by decide +kernel
theorem dX0_mix_23 : decode cX0_mix 23 = .ok (.istore_n 3, 1) := by decide +kernel
theorem dX0_mix_24 : decode cX0_mix 24 = .ok (.aload_n 0, 1) := by decide +kernel
theorem dX0_mix_25 : decode cX0_mix 25 = .ok (.iload_n 2, 1) := by decide +kernel
theorem dX0_mix_26 : decode cX0_mix 26 = .ok (.invokevirtual 53, 3) := by decide +kernel
theorem dX0_mix_29 : decode cX0_mix 29 = .ok (.istore 4, 2) := by decide +kernel
theorem dX0_mix_31 : decode cX0_mix 31 = .ok (.iload_n 3, 1) := by decide +kernel
theorem dX0_mix_32 : decode cX0_mix 32 = .ok (.bipush (-2), 2) := by decide +kernel
theorem dX0_mix_34 : decode cX0_mix 34 = .ok (.if_icmp .eq 10, 3) := by decide +kernel
theorem dX0_mix_37 : decode cX0_mix 37 = .ok (.iload 4, 2) := by decide +kernel
theorem dX0_mix_39 : decode cX0_mix 39 = .ok (.bipush (-2), 2) := by decide +kernel
theorem dX0_mix_41 : decode cX0_mix 41 = .ok (.if_icmp .ne 6, 3) := by decide +kernel
theorem dX0_mix_44 : decode cX0_mix 44 = .ok (.bipush (-2), 2) := by decide +kernel
theorem dX0_mix_46 : decode cX0_mix 46 = .ok (.ireturn, 1) := by decide +kernel
theorem dX0_mix_47 : decode cX0_mix 47 = .ok (.iload_n 3, 1) := by decide +kernel
theorem dX0_mix_48 : decode cX0_mix 48 = .ok (.iload 4, 2) := by decide +kernel
theorem dX0_mix_50 : decode cX0_mix 50 = .ok (.ixor, 1) := by decide +kernel
theorem dX0_mix_51 : decode cX0_mix 51 = .ok (.istore 5, 2) := by decide +kernel
theorem dX0_mix_53 : decode cX0_mix 53 = .ok (.aload_n 0, 1) := by decide +kernel
theorem dX0_mix_54 : decode cX0_mix 54 = .ok (.getfield 7, 3) := by decide +kernel
theorem dX0_mix_57 : decode cX0_mix 57 = .ok (.iload_n 2, 1) := by decide +kernel
theorem dX0_mix_58 : decode cX0_mix 58 = .ok (.aload_n 0, 1) := by decide +kernel
theorem dX0_mix_59 : decode cX0_mix 59 = .ok (.iload 5, 2) := by decide +kernel
theorem dX0_mix_61 : decode cX0_mix 61 = .ok (.invokevirtual 17, 3) := by decide +kernel
theorem dX0_mix_64 : decode cX0_mix 64 = .ok (.i2s, 1) := by decide +kernel
theorem dX0_mix_65 : decode cX0_mix 65 = .ok (.sastore, 1) := by decide +kernel
theorem dX0_mix_66 : decode cX0_mix 66 = .ok (.iload 5, 2) := by decide +kernel
theorem dX0_mix_68 : decode cX0_mix 68 = .ok (.ireturn, 1) := by decide +kernel
theorem q18 : (Jvm.Cond.initialized "ScrubbedCells") ∈ lw_all := lw_g (lw_at lw_m0 1 rfl) rfl
theorem q21 : (Jvm.Cond.instantiable "ScrubbedCells" (2 : Nat)) ∈ lw_all := lw_g (lw_at lw_m0 4 rfl) rfl
theorem q23 : (Jvm.Cond.instanceMethod ({ cls := "ScrubbedCells", name := "<init>", desc := "()V" } : Jvm.MethodName)) ∈ lw_all := lw_g (lw_at lw_m0 6 rfl) rfl
theorem q24 : (Jvm.Cond.code ({ cls := "ScrubbedCells", name := "<init>", desc := "()V" } : Jvm.MethodName) prog_1_method_1_code (1 : Nat) (Option.none : Option Jvm.ClassFile.FieldType)) ∈ lw_all := lw_g (lw_at lw_m0 7 rfl) rfl
theorem q25 : (Jvm.Cond.methodLink "ScrubbedCells" (1 : Nat) ({ cls := "java/lang/Object", name := "<init>", desc := "()V" } : Jvm.MethodName)) ∈ lw_all := lw_g (lw_at lw_m0 8 rfl) rfl
theorem q28 : (Jvm.Cond.fieldLink "ScrubbedCells" (7 : Nat) "ScrubbedCells" "words" "[S") ∈ lw_all := lw_g (lw_at lw_m0 11 rfl) rfl
theorem q29 : (Jvm.Cond.fieldLink "ScrubbedCells" (31 : Nat) "ScrubbedCells" "nextWord" "I") ∈ lw_all := lw_g (lw_at lw_m0 12 rfl) rfl
theorem q30 : (Jvm.Cond.laysFinal "ScrubbedCells" "ScrubbedCells" "words" "[S") ∈ lw_all := lw_g (lw_at lw_m0 13 rfl) rfl
theorem q31 : (Jvm.Cond.soleField "ScrubbedCells" "words") ∈ lw_all := lw_g (lw_at lw_m0 14 rfl) rfl
theorem q32 : (Jvm.Cond.lays "ScrubbedCells" "ScrubbedCells" "nextWord" "I") ∈ lw_all := lw_g (lw_at lw_m0 15 rfl) rfl
theorem q33 : (Jvm.Cond.soleField "ScrubbedCells" "nextWord") ∈ lw_all := lw_g (lw_at lw_m0 16 rfl) rfl
theorem q34 : (Jvm.Cond.superclass "ScrubbedCells" "java/lang/Object") ∈ lw_all := lw_g (lw_at lw_m0 17 rfl) rfl
theorem q37 : (Jvm.Cond.instanceMethod ({ cls := "ScrubbedCells", name := "write", desc := "(II)I" } : Jvm.MethodName)) ∈ lw_all := lw_g (lw_at lw_m0 20 rfl) rfl
theorem q38 : (Jvm.Cond.selects "ScrubbedCells" ({ cls := "ScrubbedCells", name := "write", desc := "(II)I" } : Jvm.MethodName) ({ cls := "ScrubbedCells", name := "write", desc := "(II)I" } : Jvm.MethodName)) ∈ lw_all := lw_g (lw_at lw_m0 21 rfl) rfl
theorem q39 : (Jvm.Cond.code ({ cls := "ScrubbedCells", name := "write", desc := "(II)I" } : Jvm.MethodName) prog_1_method_2_code (3 : Nat) (Option.some Jvm.ClassFile.FieldType.int)) ∈ lw_all := lw_g (lw_at lw_m0 22 rfl) rfl
theorem q40 : (Jvm.Cond.methodLink "ScrubbedCells" (13 : Nat) ({ cls := "ScrubbedCells", name := "isWord", desc := "(I)Z" } : Jvm.MethodName)) ∈ lw_all := lw_g (lw_at lw_m0 23 rfl) rfl
theorem q42 : (Jvm.Cond.instanceMethod ({ cls := "ScrubbedCells", name := "isWord", desc := "(I)Z" } : Jvm.MethodName)) ∈ lw_all := lw_g (lw_at lw_m0 25 rfl) rfl
theorem q43 : (Jvm.Cond.code ({ cls := "ScrubbedCells", name := "isWord", desc := "(I)Z" } : Jvm.MethodName) prog_1_method_14_code (2 : Nat) (Option.some Jvm.ClassFile.FieldType.boolean)) ∈ lw_all := lw_g (lw_at lw_m0 26 rfl) rfl
theorem q44 : (Jvm.Cond.methodLink "ScrubbedCells" (17 : Nat) ({ cls := "ScrubbedCells", name := "encoded", desc := "(I)I" } : Jvm.MethodName)) ∈ lw_all := lw_g (lw_at lw_m0 27 rfl) rfl
theorem q46 : (Jvm.Cond.instanceMethod ({ cls := "ScrubbedCells", name := "encoded", desc := "(I)I" } : Jvm.MethodName)) ∈ lw_all := lw_g (lw_at lw_m0 29 rfl) rfl
theorem q47 : (Jvm.Cond.code ({ cls := "ScrubbedCells", name := "encoded", desc := "(I)I" } : Jvm.MethodName) prog_1_method_20_code (5 : Nat) (Option.some Jvm.ClassFile.FieldType.int)) ∈ lw_all := lw_g (lw_at lw_m0 30 rfl) rfl
theorem q48 : (Jvm.Cond.methodLink "ScrubbedCells" (56 : Nat) ({ cls := "ScrubbedCells", name := "spread", desc := "(I)I" } : Jvm.MethodName)) ∈ lw_all := lw_g (lw_at lw_m0 31 rfl) rfl
theorem q50 : (Jvm.Cond.instanceMethod ({ cls := "ScrubbedCells", name := "spread", desc := "(I)I" } : Jvm.MethodName)) ∈ lw_all := lw_g (lw_at lw_m0 33 rfl) rfl
theorem q51 : (Jvm.Cond.code ({ cls := "ScrubbedCells", name := "spread", desc := "(I)I" } : Jvm.MethodName) prog_1_method_18_code (5 : Nat) (Option.some Jvm.ClassFile.FieldType.int)) ∈ lw_all := lw_g (lw_at lw_m0 34 rfl) rfl
theorem q52 : (Jvm.Cond.methodLink "ScrubbedCells" (41 : Nat) ({ cls := "ScrubbedCells", name := "checksOf", desc := "(I)I" } : Jvm.MethodName)) ∈ lw_all := lw_g (lw_at lw_m0 35 rfl) rfl
theorem q54 : (Jvm.Cond.instanceMethod ({ cls := "ScrubbedCells", name := "checksOf", desc := "(I)I" } : Jvm.MethodName)) ∈ lw_all := lw_g (lw_at lw_m0 37 rfl) rfl
theorem q55 : (Jvm.Cond.code ({ cls := "ScrubbedCells", name := "checksOf", desc := "(I)I" } : Jvm.MethodName) prog_1_method_17_code (4 : Nat) (Option.some Jvm.ClassFile.FieldType.int)) ∈ lw_all := lw_g (lw_at lw_m0 38 rfl) rfl
theorem q56 : (Jvm.Cond.methodLink "ScrubbedCells" (44 : Nat) ({ cls := "ScrubbedCells", name := "isOdd", desc := "(I)Z" } : Jvm.MethodName)) ∈ lw_all := lw_g (lw_at lw_m0 39 rfl) rfl
theorem q58 : (Jvm.Cond.instanceMethod ({ cls := "ScrubbedCells", name := "isOdd", desc := "(I)Z" } : Jvm.MethodName)) ∈ lw_all := lw_g (lw_at lw_m0 41 rfl) rfl
theorem q59 : (Jvm.Cond.code ({ cls := "ScrubbedCells", name := "isOdd", desc := "(I)Z" } : Jvm.MethodName) prog_1_method_16_code (3 : Nat) (Option.some Jvm.ClassFile.FieldType.boolean)) ∈ lw_all := lw_g (lw_at lw_m0 42 rfl) rfl
theorem q60 : (Jvm.Cond.methodLink "ScrubbedCells" (38 : Nat) ({ cls := "ScrubbedCells", name := "onesIn", desc := "(I)I" } : Jvm.MethodName)) ∈ lw_all := lw_g (lw_at lw_m0 43 rfl) rfl
theorem q62 : (Jvm.Cond.instanceMethod ({ cls := "ScrubbedCells", name := "onesIn", desc := "(I)I" } : Jvm.MethodName)) ∈ lw_all := lw_g (lw_at lw_m0 45 rfl) rfl
theorem q63 : (Jvm.Cond.code ({ cls := "ScrubbedCells", name := "onesIn", desc := "(I)I" } : Jvm.MethodName) prog_1_method_15_code (4 : Nat) (Option.some Jvm.ClassFile.FieldType.int)) ∈ lw_all := lw_g (lw_at lw_m0 46 rfl) rfl
theorem q65 : (Jvm.Cond.instanceMethod ({ cls := "ScrubbedCells", name := "flip", desc := "(II)I" } : Jvm.MethodName)) ∈ lw_all := lw_g (lw_at lw_m0 48 rfl) rfl
theorem q66 : (Jvm.Cond.selects "ScrubbedCells" ({ cls := "ScrubbedCells", name := "flip", desc := "(II)I" } : Jvm.MethodName) ({ cls := "ScrubbedCells", name := "flip", desc := "(II)I" } : Jvm.MethodName)) ∈ lw_all := lw_g (lw_at lw_m0 49 rfl) rfl
theorem q67 : (Jvm.Cond.code ({ cls := "ScrubbedCells", name := "flip", desc := "(II)I" } : Jvm.MethodName) prog_1_method_3_code (3 : Nat) (Option.some Jvm.ClassFile.FieldType.int)) ∈ lw_all := lw_g (lw_at lw_m0 50 rfl) rfl
theorem q69 : (Jvm.Cond.instanceMethod ({ cls := "ScrubbedCells", name := "read", desc := "(I)I" } : Jvm.MethodName)) ∈ lw_all := lw_g (lw_at lw_m0 52 rfl) rfl
theorem q70 : (Jvm.Cond.selects "ScrubbedCells" ({ cls := "ScrubbedCells", name := "read", desc := "(I)I" } : Jvm.MethodName) ({ cls := "ScrubbedCells", name := "read", desc := "(I)I" } : Jvm.MethodName)) ∈ lw_all := lw_g (lw_at lw_m0 53 rfl) rfl
theorem q71 : (Jvm.Cond.code ({ cls := "ScrubbedCells", name := "read", desc := "(I)I" } : Jvm.MethodName) prog_1_method_4_code (4 : Nat) (Option.some Jvm.ClassFile.FieldType.int)) ∈ lw_all := lw_g (lw_at lw_m0 54 rfl) rfl
theorem q72 : (Jvm.Cond.methodLink "ScrubbedCells" (21 : Nat) ({ cls := "ScrubbedCells", name := "wrongBit", desc := "(I)I" } : Jvm.MethodName)) ∈ lw_all := lw_g (lw_at lw_m0 55 rfl) rfl
theorem q74 : (Jvm.Cond.instanceMethod ({ cls := "ScrubbedCells", name := "wrongBit", desc := "(I)I" } : Jvm.MethodName)) ∈ lw_all := lw_g (lw_at lw_m0 57 rfl) rfl
theorem q75 : (Jvm.Cond.code ({ cls := "ScrubbedCells", name := "wrongBit", desc := "(I)I" } : Jvm.MethodName) prog_1_method_21_code (4 : Nat) (Option.some Jvm.ClassFile.FieldType.int)) ∈ lw_all := lw_g (lw_at lw_m0 58 rfl) rfl
theorem q76 : (Jvm.Cond.methodLink "ScrubbedCells" (24 : Nat) ({ cls := "ScrubbedCells", name := "mended", desc := "(II)I" } : Jvm.MethodName)) ∈ lw_all := lw_g (lw_at lw_m0 59 rfl) rfl
theorem q78 : (Jvm.Cond.instanceMethod ({ cls := "ScrubbedCells", name := "mended", desc := "(II)I" } : Jvm.MethodName)) ∈ lw_all := lw_g (lw_at lw_m0 61 rfl) rfl
theorem q79 : (Jvm.Cond.code ({ cls := "ScrubbedCells", name := "mended", desc := "(II)I" } : Jvm.MethodName) prog_1_method_22_code (3 : Nat) (Option.some Jvm.ClassFile.FieldType.int)) ∈ lw_all := lw_g (lw_at lw_m0 62 rfl) rfl
theorem q80 : (Jvm.Cond.methodLink "ScrubbedCells" (28 : Nat) ({ cls := "ScrubbedCells", name := "byteIn", desc := "(I)I" } : Jvm.MethodName)) ∈ lw_all := lw_g (lw_at lw_m0 63 rfl) rfl
theorem q82 : (Jvm.Cond.instanceMethod ({ cls := "ScrubbedCells", name := "byteIn", desc := "(I)I" } : Jvm.MethodName)) ∈ lw_all := lw_g (lw_at lw_m0 65 rfl) rfl
theorem q83 : (Jvm.Cond.code ({ cls := "ScrubbedCells", name := "byteIn", desc := "(I)I" } : Jvm.MethodName) prog_1_method_19_code (5 : Nat) (Option.some Jvm.ClassFile.FieldType.int)) ∈ lw_all := lw_g (lw_at lw_m0 66 rfl) rfl
theorem q85 : (Jvm.Cond.instanceMethod ({ cls := "ScrubbedCells", name := "repair", desc := "(I)I" } : Jvm.MethodName)) ∈ lw_all := lw_g (lw_at lw_m0 68 rfl) rfl
theorem q86 : (Jvm.Cond.selects "ScrubbedCells" ({ cls := "ScrubbedCells", name := "repair", desc := "(I)I" } : Jvm.MethodName) ({ cls := "ScrubbedCells", name := "repair", desc := "(I)I" } : Jvm.MethodName)) ∈ lw_all := lw_g (lw_at lw_m0 69 rfl) rfl
theorem q87 : (Jvm.Cond.code ({ cls := "ScrubbedCells", name := "repair", desc := "(I)I" } : Jvm.MethodName) prog_1_method_5_code (3 : Nat) (Option.some Jvm.ClassFile.FieldType.int)) ∈ lw_all := lw_g (lw_at lw_m0 70 rfl) rfl
theorem q89 : (Jvm.Cond.instanceMethod ({ cls := "ScrubbedCells", name := "scrub", desc := "(I)I" } : Jvm.MethodName)) ∈ lw_all := lw_g (lw_at lw_m0 72 rfl) rfl
theorem q90 : (Jvm.Cond.selects "ScrubbedCells" ({ cls := "ScrubbedCells", name := "scrub", desc := "(I)I" } : Jvm.MethodName) ({ cls := "ScrubbedCells", name := "scrub", desc := "(I)I" } : Jvm.MethodName)) ∈ lw_all := lw_g (lw_at lw_m0 73 rfl) rfl
theorem q91 : (Jvm.Cond.code ({ cls := "ScrubbedCells", name := "scrub", desc := "(I)I" } : Jvm.MethodName) prog_1_method_6_code (6 : Nat) (Option.some Jvm.ClassFile.FieldType.int)) ∈ lw_all := lw_g (lw_at lw_m0 74 rfl) rfl
theorem q92 : (Jvm.Cond.methodLink "ScrubbedCells" (35 : Nat) ({ cls := "ScrubbedCells", name := "repair", desc := "(I)I" } : Jvm.MethodName)) ∈ lw_all := lw_g (lw_at lw_m0 75 rfl) rfl
theorem q94 : (Jvm.Cond.instanceMethod ({ cls := "ScrubbedCells", name := "hand", desc := "()I" } : Jvm.MethodName)) ∈ lw_all := lw_g (lw_at lw_m0 77 rfl) rfl
theorem q95 : (Jvm.Cond.selects "ScrubbedCells" ({ cls := "ScrubbedCells", name := "hand", desc := "()I" } : Jvm.MethodName) ({ cls := "ScrubbedCells", name := "hand", desc := "()I" } : Jvm.MethodName)) ∈ lw_all := lw_g (lw_at lw_m0 78 rfl) rfl
theorem q96 : (Jvm.Cond.code ({ cls := "ScrubbedCells", name := "hand", desc := "()I" } : Jvm.MethodName) prog_1_method_7_code (1 : Nat) (Option.some Jvm.ClassFile.FieldType.int)) ∈ lw_all := lw_g (lw_at lw_m0 79 rfl) rfl
theorem q98 : (Jvm.Cond.instanceMethod ({ cls := "ScrubbedCells", name := "broken", desc := "()I" } : Jvm.MethodName)) ∈ lw_all := lw_g (lw_at lw_m0 81 rfl) rfl
theorem q99 : (Jvm.Cond.selects "ScrubbedCells" ({ cls := "ScrubbedCells", name := "broken", desc := "()I" } : Jvm.MethodName) ({ cls := "ScrubbedCells", name := "broken", desc := "()I" } : Jvm.MethodName)) ∈ lw_all := lw_g (lw_at lw_m0 82 rfl) rfl
theorem q100 : (Jvm.Cond.code ({ cls := "ScrubbedCells", name := "broken", desc := "()I" } : Jvm.MethodName) prog_1_method_8_code (3 : Nat) (Option.some Jvm.ClassFile.FieldType.int)) ∈ lw_all := lw_g (lw_at lw_m0 83 rfl) rfl
theorem q102 : (Jvm.Cond.instanceMethod ({ cls := "ScrubbedCells", name := "marred", desc := "()I" } : Jvm.MethodName)) ∈ lw_all := lw_g (lw_at lw_m0 85 rfl) rfl
theorem q103 : (Jvm.Cond.selects "ScrubbedCells" ({ cls := "ScrubbedCells", name := "marred", desc := "()I" } : Jvm.MethodName) ({ cls := "ScrubbedCells", name := "marred", desc := "()I" } : Jvm.MethodName)) ∈ lw_all := lw_g (lw_at lw_m0 86 rfl) rfl
theorem q104 : (Jvm.Cond.code ({ cls := "ScrubbedCells", name := "marred", desc := "()I" } : Jvm.MethodName) prog_1_method_9_code (4 : Nat) (Option.some Jvm.ClassFile.FieldType.int)) ∈ lw_all := lw_g (lw_at lw_m0 87 rfl) rfl
theorem q106 : (Jvm.Cond.instanceMethod ({ cls := "ScrubbedCells", name := "raw", desc := "(I)I" } : Jvm.MethodName)) ∈ lw_all := lw_g (lw_at lw_m0 89 rfl) rfl
theorem q107 : (Jvm.Cond.selects "ScrubbedCells" ({ cls := "ScrubbedCells", name := "raw", desc := "(I)I" } : Jvm.MethodName) ({ cls := "ScrubbedCells", name := "raw", desc := "(I)I" } : Jvm.MethodName)) ∈ lw_all := lw_g (lw_at lw_m0 90 rfl) rfl
theorem q108 : (Jvm.Cond.code ({ cls := "ScrubbedCells", name := "raw", desc := "(I)I" } : Jvm.MethodName) prog_1_method_10_code (2 : Nat) (Option.some Jvm.ClassFile.FieldType.int)) ∈ lw_all := lw_g (lw_at lw_m0 91 rfl) rfl
theorem q110 : (Jvm.Cond.instanceMethod ({ cls := "ScrubbedCells", name := "distance", desc := "(II)I" } : Jvm.MethodName)) ∈ lw_all := lw_g (lw_at lw_m0 93 rfl) rfl
theorem q111 : (Jvm.Cond.selects "ScrubbedCells" ({ cls := "ScrubbedCells", name := "distance", desc := "(II)I" } : Jvm.MethodName) ({ cls := "ScrubbedCells", name := "distance", desc := "(II)I" } : Jvm.MethodName)) ∈ lw_all := lw_g (lw_at lw_m0 94 rfl) rfl
theorem q112 : (Jvm.Cond.code ({ cls := "ScrubbedCells", name := "distance", desc := "(II)I" } : Jvm.MethodName) prog_1_method_11_code (4 : Nat) (Option.some Jvm.ClassFile.FieldType.int)) ∈ lw_all := lw_g (lw_at lw_m0 95 rfl) rfl
theorem q114 : (Jvm.Cond.instanceMethod ({ cls := "ScrubbedCells", name := "nearest", desc := "(I)I" } : Jvm.MethodName)) ∈ lw_all := lw_g (lw_at lw_m0 97 rfl) rfl
theorem q115 : (Jvm.Cond.selects "ScrubbedCells" ({ cls := "ScrubbedCells", name := "nearest", desc := "(I)I" } : Jvm.MethodName) ({ cls := "ScrubbedCells", name := "nearest", desc := "(I)I" } : Jvm.MethodName)) ∈ lw_all := lw_g (lw_at lw_m0 98 rfl) rfl
theorem q116 : (Jvm.Cond.code ({ cls := "ScrubbedCells", name := "nearest", desc := "(I)I" } : Jvm.MethodName) prog_1_method_12_code (5 : Nat) (Option.some Jvm.ClassFile.FieldType.int)) ∈ lw_all := lw_g (lw_at lw_m0 99 rfl) rfl
theorem q117 : (Jvm.Cond.methodLink "ScrubbedCells" (47 : Nat) ({ cls := "ScrubbedCells", name := "waysOfThree", desc := "(I)I" } : Jvm.MethodName)) ∈ lw_all := lw_g (lw_at lw_m0 100 rfl) rfl
theorem q119 : (Jvm.Cond.instanceMethod ({ cls := "ScrubbedCells", name := "waysOfThree", desc := "(I)I" } : Jvm.MethodName)) ∈ lw_all := lw_g (lw_at lw_m0 102 rfl) rfl
theorem q120 : (Jvm.Cond.code ({ cls := "ScrubbedCells", name := "waysOfThree", desc := "(I)I" } : Jvm.MethodName) prog_1_method_24_code (6 : Nat) (Option.some Jvm.ClassFile.FieldType.int)) ∈ lw_all := lw_g (lw_at lw_m0 103 rfl) rfl
theorem q121 : (Jvm.Cond.methodLink "ScrubbedCells" (50 : Nat) ({ cls := "ScrubbedCells", name := "waysOfTwo", desc := "(I)I" } : Jvm.MethodName)) ∈ lw_all := lw_g (lw_at lw_m0 104 rfl) rfl
theorem q123 : (Jvm.Cond.instanceMethod ({ cls := "ScrubbedCells", name := "waysOfTwo", desc := "(I)I" } : Jvm.MethodName)) ∈ lw_all := lw_g (lw_at lw_m0 106 rfl) rfl
theorem q124 : (Jvm.Cond.code ({ cls := "ScrubbedCells", name := "waysOfTwo", desc := "(I)I" } : Jvm.MethodName) prog_1_method_23_code (5 : Nat) (Option.some Jvm.ClassFile.FieldType.int)) ∈ lw_all := lw_g (lw_at lw_m0 107 rfl) rfl
theorem q126 : (Jvm.Cond.instanceMethod ({ cls := "ScrubbedCells", name := "mix", desc := "(II)I" } : Jvm.MethodName)) ∈ lw_all := lw_g (lw_at lw_m0 109 rfl) rfl
theorem q127 : (Jvm.Cond.selects "ScrubbedCells" ({ cls := "ScrubbedCells", name := "mix", desc := "(II)I" } : Jvm.MethodName) ({ cls := "ScrubbedCells", name := "mix", desc := "(II)I" } : Jvm.MethodName)) ∈ lw_all := lw_g (lw_at lw_m0 110 rfl) rfl
theorem q128 : (Jvm.Cond.code ({ cls := "ScrubbedCells", name := "mix", desc := "(II)I" } : Jvm.MethodName) prog_1_method_13_code (6 : Nat) (Option.some Jvm.ClassFile.FieldType.int)) ∈ lw_all := lw_g (lw_at lw_m0 111 rfl) rfl
theorem q129 : (Jvm.Cond.methodLink "ScrubbedCells" (53 : Nat) ({ cls := "ScrubbedCells", name := "read", desc := "(I)I" } : Jvm.MethodName)) ∈ lw_all := lw_g (lw_at lw_m0 112 rfl) rfl
theorem in_X0 : ∀ w ∈ wsX00, w ∈ lw_all := lw_in wsX00 [30, 32] (by decide +kernel) (by decide +kernel)
end
section
/-! ScrubbedCellsModel -/
set_option maxRecDepth 100000
def RX1 : String := "ScrubbedCellsModel"
def TX1 : u_T := fun k => match k with
  | 0 => ("ScrubbedCellsModel", "words", "[I", false)
  | 1 => ("ScrubbedCellsModel", "codes", "[I", false)
  | _ => ("ScrubbedCellsModel", "hand", "I", false)
def tyX1 : Nat → FieldType := fun k => match k with
  | 0 => .array .int
  | 1 => .array .int
  | _ => .int
abbrev wsX10 : List Cond := u_ws RX1 TX1 3
theorem nmX1 : ∀ a, a < 3 → ∀ b, b < 3 → a ≠ b → (TX1 a).2.1 ≠ (TX1 b).2.1 := by decide +kernel
theorem tyX1_ok : ∀ k, k < 3 → parseFieldDescriptor (TX1 k).2.2.1 = some (tyX1 k) := by decide +kernel
abbrev cX1_init : ByteArray := prog_3_method_1_code
def yX1_init : MethodName := ⟨RX1, "<init>", "()V"⟩
theorem dX1_init_0 : decode cX1_init 0 = .ok (.aload_n 0, 1) := by decide +kernel
theorem dX1_init_1 : decode cX1_init 1 = .ok (.invokespecial 1, 3) := by decide +kernel
theorem dX1_init_4 : decode cX1_init 4 = .ok (.aload_n 0, 1) := by decide +kernel
theorem dX1_init_5 : decode cX1_init 5 = .ok (.bipush 16, 2) := by decide +kernel
theorem dX1_init_7 : decode cX1_init 7 = .ok (.newarray .int, 2) := by decide +kernel
theorem dX1_init_9 : decode cX1_init 9 = .ok (.putfield 7, 3) := by decide +kernel
theorem dX1_init_12 : decode cX1_init 12 = .ok (.aload_n 0, 1) := by decide +kernel
theorem dX1_init_13 : decode cX1_init 13 = .ok (.sipush 256, 3) := by decide +kernel
theorem dX1_init_16 : decode cX1_init 16 = .ok (.newarray .int, 2) := by decide +kernel
theorem dX1_init_18 : decode cX1_init 18 = .ok (.putfield 13, 3) := by decide +kernel
theorem dX1_init_21 : decode cX1_init 21 = .ok (.aload_n 0, 1) := by decide +kernel
theorem dX1_init_22 : decode cX1_init 22 = .ok (.iconst 0, 1) := by decide +kernel
theorem dX1_init_23 : decode cX1_init 23 = .ok (.putfield 16, 3) := by decide +kernel
theorem dX1_init_26 : decode cX1_init 26 = .ok (.iconst 0, 1) := by decide +kernel
theorem dX1_init_27 : decode cX1_init 27 = .ok (.istore_n 1, 1) := by decide +kernel
theorem dX1_init_28 : decode cX1_init 28 = .ok (.iload_n 1, 1) := by decide +kernel
theorem dX1_init_29 : decode cX1_init 29 = .ok (.sipush 256, 3) := by decide +kernel
theorem dX1_init_32 : decode cX1_init 32 = .ok (.if_icmp .ge 20, 3) := by decide +kernel
theorem dX1_init_35 : decode cX1_init 35 = .ok (.aload_n 0, 1) := by decide +kernel
theorem dX1_init_36 : decode cX1_init 36 = .ok (.getfield 13, 3) := by decide +kernel
theorem dX1_init_39 : decode cX1_init 39 = .ok (.iload_n 1, 1) := by decide +kernel
theorem dX1_init_40 : decode cX1_init 40 = .ok (.aload_n 0, 1) := by decide +kernel
theorem dX1_init_41 : decode cX1_init 41 = .ok (.iload_n 1, 1) := by decide +kernel
theorem dX1_init_42 : decode cX1_init 42 = .ok (.invokevirtual 20, 3) := by decide +kernel
theorem dX1_init_45 : decode cX1_init 45 = .ok (.iastore, 1) := by decide +kernel
theorem dX1_init_46 : decode cX1_init 46 = .ok (.iinc 1 1, 3) := by decide +kernel
theorem dX1_init_49 : decode cX1_init 49 = .ok (.goto (-21), 3) := by decide +kernel
theorem dX1_init_52 : decode cX1_init 52 = .ok (.iconst 0, 1) := by decide +kernel
theorem dX1_init_53 : decode cX1_init 53 = .ok (.istore_n 1, 1) := by decide +kernel
theorem dX1_init_54 : decode cX1_init 54 = .ok (.iload_n 1, 1) := by decide +kernel
theorem dX1_init_55 : decode cX1_init 55 = .ok (.bipush 16, 2) := by decide +kernel
theorem dX1_init_57 : decode cX1_init 57 = .ok (.if_icmp .ge 21, 3) := by decide +kernel
theorem dX1_init_60 : decode cX1_init 60 = .ok (.aload_n 0, 1) := by decide +kernel
theorem dX1_init_61 : decode cX1_init 61 = .ok (.getfield 7, 3) := by decide +kernel
theorem dX1_init_64 : decode cX1_init 64 = .ok (.iload_n 1, 1) := by decide +kernel
theorem dX1_init_65 : decode cX1_init 65 = .ok (.aload_n 0, 1) := by decide +kernel
theorem dX1_init_66 : decode cX1_init 66 = .ok (.getfield 13, 3) := by decide +kernel
theorem dX1_init_69 : decode cX1_init 69 = .ok (.iconst 0, 1) := by decide +kernel
theorem dX1_init_70 : decode cX1_init 70 = .ok (.iaload, 1) := by decide +kernel
theorem dX1_init_71 : decode cX1_init 71 = .ok (.iastore, 1) := by decide +kernel
theorem dX1_init_72 : decode cX1_init 72 = .ok (.iinc 1 1, 3) := by decide +kernel
theorem dX1_init_75 : decode cX1_init 75 = .ok (.goto (-21), 3) := by decide +kernel
theorem dX1_init_78 : decode cX1_init 78 = .ok (.return_, 1) := by decide +kernel
abbrev cX1_codeOf : ByteArray := prog_3_method_5_code
def yX1_codeOf : MethodName := ⟨RX1, "codeOf", "(I)I"⟩
theorem dX1_codeOf_0 : decode cX1_codeOf 0 = .ok (.iconst 0, 1) := by decide +kernel
theorem dX1_codeOf_1 : decode cX1_codeOf 1 = .ok (.istore_n 2, 1) := by decide +kernel
theorem dX1_codeOf_2 : decode cX1_codeOf 2 = .ok (.iconst 0, 1) := by decide +kernel
theorem dX1_codeOf_3 : decode cX1_codeOf 3 = .ok (.istore_n 3, 1) := by decide +kernel
theorem dX1_codeOf_4 : decode cX1_codeOf 4 = .ok (.iload_n 3, 1) := by decide +kernel
theorem dX1_codeOf_5 : decode cX1_codeOf 5 = .ok (.bipush 8, 2) := by decide +kernel
theorem dX1_codeOf_7 : decode cX1_codeOf 7 = .ok (.if_icmp .ge 28, 3) := by decide +kernel
theorem dX1_codeOf_10 : decode cX1_codeOf 10 = .ok (.aload_n 0, 1) := by decide +kernel
theorem dX1_codeOf_11 : decode cX1_codeOf 11 = .ok (.iload_n 3, 1) := by decide +kernel
theorem dX1_codeOf_12 : decode cX1_codeOf 12 = .ok (.invokevirtual 28, 3) := by decide +kernel
theorem dX1_codeOf_15 : decode cX1_codeOf 15 = .ok (.istore 4, 2) := by decide +kernel
theorem dX1_codeOf_17 : decode cX1_codeOf 17 = .ok (.iload_n 2, 1) := by decide +kernel
theorem dX1_codeOf_18 : decode cX1_codeOf 18 = .ok (.aload_n 0, 1) := by decide +kernel
theorem dX1_codeOf_19 : decode cX1_codeOf 19 = .ok (.iload_n 1, 1) := by decide +kernel
theorem dX1_codeOf_20 : decode cX1_codeOf 20 = .ok (.iload_n 3, 1) := by decide +kernel
theorem dX1_codeOf_21 : decode cX1_codeOf 21 = .ok (.invokevirtual 24, 3) := by decide +kernel
theorem dX1_codeOf_24 : decode cX1_codeOf 24 = .ok (.iload 4, 2) := by decide +kernel
theorem dX1_codeOf_26 : decode cX1_codeOf 26 = .ok (.ishl, 1) := by decide +kernel
theorem dX1_codeOf_27 : decode cX1_codeOf 27 = .ok (.ior, 1) := by decide +kernel
theorem dX1_codeOf_28 : decode cX1_codeOf 28 = .ok (.istore_n 2, 1) := by decide +kernel
theorem dX1_codeOf_29 : decode cX1_codeOf 29 = .ok (.iinc 3 1, 3) := by decide +kernel
theorem dX1_codeOf_32 : decode cX1_codeOf 32 = .ok (.goto (-28), 3) := by decide +kernel
theorem dX1_codeOf_35 : decode cX1_codeOf 35 = .ok (.aload_n 0, 1) := by decide +kernel
theorem dX1_codeOf_36 : decode cX1_codeOf 36 = .ok (.iload_n 2, 1) := by decide +kernel
theorem dX1_codeOf_37 : decode cX1_codeOf 37 = .ok (.iconst 1, 1) := by decide +kernel
theorem dX1_codeOf_38 : decode cX1_codeOf 38 = .ok (.invokevirtual 31, 3) := by decide +kernel
theorem dX1_codeOf_41 : decode cX1_codeOf 41 = .ok (.ifCond .ne 7, 3) := by decide +kernel
theorem dX1_codeOf_44 : decode cX1_codeOf 44 = .ok (.iload_n 2, 1) := by decide +kernel
theorem dX1_codeOf_45 : decode cX1_codeOf 45 = .ok (.iconst 2, 1) := by decide +kernel
theorem dX1_codeOf_46 : decode cX1_codeOf 46 = .ok (.ior, 1) := by decide +kernel
theorem dX1_codeOf_47 : decode cX1_codeOf 47 = .ok (.istore_n 2, 1) := by decide +kernel
theorem dX1_codeOf_48 : decode cX1_codeOf 48 = .ok (.aload_n 0, 1) := by decide +kernel
theorem dX1_codeOf_49 : decode cX1_codeOf 49 = .ok (.iload_n 2, 1) := by decide +kernel
theorem dX1_codeOf_50 : decode cX1_codeOf 50 = .ok (.iconst 2, 1) := by decide +kernel
theorem dX1_codeOf_51 : decode cX1_codeOf 51 = .ok (.invokevirtual 31, 3) := by decide +kernel
theorem dX1_codeOf_54 : decode cX1_codeOf 54 = .ok (.ifCond .ne 7, 3) := by decide +kernel
theorem dX1_codeOf_57 : decode cX1_codeOf 57 = .ok (.iload_n 2, 1) := by decide +kernel
theorem dX1_codeOf_58 : decode cX1_codeOf 58 = .ok (.iconst 4, 1) := by decide +kernel
theorem dX1_codeOf_59 : decode cX1_codeOf 59 = .ok (.ior, 1) := by decide +kernel
theorem dX1_codeOf_60 : decode cX1_codeOf 60 = .ok (.istore_n 2, 1) := by decide +kernel
theorem dX1_codeOf_61 : decode cX1_codeOf 61 = .ok (.aload_n 0, 1) := by decide +kernel
theorem dX1_codeOf_62 : decode cX1_codeOf 62 = .ok (.iload_n 2, 1) := by decide +kernel
theorem dX1_codeOf_63 : decode cX1_codeOf 63 = .ok (.iconst 4, 1) := by decide +kernel
theorem dX1_codeOf_64 : decode cX1_codeOf 64 = .ok (.invokevirtual 31, 3) := by decide +kernel
theorem dX1_codeOf_67 : decode cX1_codeOf 67 = .ok (.ifCond .ne 8, 3) := by decide +kernel
theorem dX1_codeOf_70 : decode cX1_codeOf 70 = .ok (.iload_n 2, 1) := by decide +kernel
theorem dX1_codeOf_71 : decode cX1_codeOf 71 = .ok (.bipush 16, 2) := by decide +kernel
theorem dX1_codeOf_73 : decode cX1_codeOf 73 = .ok (.ior, 1) := by decide +kernel
theorem dX1_codeOf_74 : decode cX1_codeOf 74 = .ok (.istore_n 2, 1) := by decide +kernel
theorem dX1_codeOf_75 : decode cX1_codeOf 75 = .ok (.aload_n 0, 1) := by decide +kernel
theorem dX1_codeOf_76 : decode cX1_codeOf 76 = .ok (.iload_n 2, 1) := by decide +kernel
theorem dX1_codeOf_77 : decode cX1_codeOf 77 = .ok (.bipush 8, 2) := by decide +kernel
theorem dX1_codeOf_79 : decode cX1_codeOf 79 = .ok (.invokevirtual 31, 3) := by decide +kernel
theorem dX1_codeOf_82 : decode cX1_codeOf 82 = .ok (.ifCond .ne 9, 3) := by decide +kernel
theorem dX1_codeOf_85 : decode cX1_codeOf 85 = .ok (.iload_n 2, 1) := by decide +kernel
theorem dX1_codeOf_86 : decode cX1_codeOf 86 = .ok (.sipush 256, 3) := by decide +kernel
theorem dX1_codeOf_89 : decode cX1_codeOf 89 = .ok (.ior, 1) := by decide +kernel
theorem dX1_codeOf_90 : decode cX1_codeOf 90 = .ok (.istore_n 2, 1) := by decide +kernel
theorem dX1_codeOf_91 : decode cX1_codeOf 91 = .ok (.aload_n 0, 1) := by decide +kernel
theorem dX1_codeOf_92 : decode cX1_codeOf 92 = .ok (.iload_n 2, 1) := by decide +kernel
theorem dX1_codeOf_93 : decode cX1_codeOf 93 = .ok (.iconst 0, 1) := by decide +kernel
theorem dX1_codeOf_94 : decode cX1_codeOf 94 = .ok (.invokevirtual 31, 3) := by decide +kernel
theorem dX1_codeOf_97 : decode cX1_codeOf 97 = .ok (.ifCond .eq 7, 3) := by decide +kernel
theorem dX1_codeOf_100 : decode cX1_codeOf 100 = .ok (.iload_n 2, 1) := by decide +kernel
theorem dX1_codeOf_101 : decode cX1_codeOf 101 = .ok (.goto 6, 3) := by decide +kernel
theorem dX1_codeOf_104 : decode cX1_codeOf 104 = .ok (.iload_n 2, 1) := by decide +kernel
theorem dX1_codeOf_105 : decode cX1_codeOf 105 = .ok (.iconst 1, 1) := by decide +kernel
theorem dX1_codeOf_106 : decode cX1_codeOf 106 = .ok (.ior, 1) := by decide +kernel
theorem dX1_codeOf_107 : decode cX1_codeOf 107 = .ok (.ireturn, 1) := by decide +kernel
abbrev cX1_placeOf : ByteArray := prog_3_method_3_code
def yX1_placeOf : MethodName := ⟨RX1, "placeOf", "(I)I"⟩
theorem dX1_placeOf_0 : decode cX1_placeOf 0 = .ok (.iconst 0, 1) := by decide +kernel
theorem dX1_placeOf_1 : decode cX1_placeOf 1 = .ok (.istore_n 2, 1) := by decide +kernel
theorem dX1_placeOf_2 : decode cX1_placeOf 2 = .ok (.iconst 1, 1) := by decide +kernel
theorem dX1_placeOf_3 : decode cX1_placeOf 3 = .ok (.istore_n 3, 1) := by decide +kernel
theorem dX1_placeOf_4 : decode cX1_placeOf 4 = .ok (.iload_n 3, 1) := by decide +kernel
theorem dX1_placeOf_5 : decode cX1_placeOf 5 = .ok (.bipush 12, 2) := by decide +kernel
theorem dX1_placeOf_7 : decode cX1_placeOf 7 = .ok (.if_icmp .gt 40, 3) := by decide +kernel
theorem dX1_placeOf_10 : decode cX1_placeOf 10 = .ok (.iload_n 3, 1) := by decide +kernel
theorem dX1_placeOf_11 : decode cX1_placeOf 11 = .ok (.iconst 1, 1) := by decide +kernel
theorem dX1_placeOf_12 : decode cX1_placeOf 12 = .ok (.if_icmp .eq 29, 3) := by decide +kernel
theorem dX1_placeOf_15 : decode cX1_placeOf 15 = .ok (.iload_n 3, 1) := by decide +kernel
theorem dX1_placeOf_16 : decode cX1_placeOf 16 = .ok (.iconst 2, 1) := by decide +kernel
theorem dX1_placeOf_17 : decode cX1_placeOf 17 = .ok (.if_icmp .eq 24, 3) := by decide +kernel
theorem dX1_placeOf_20 : decode cX1_placeOf 20 = .ok (.iload_n 3, 1) := by decide +kernel
theorem dX1_placeOf_21 : decode cX1_placeOf 21 = .ok (.iconst 4, 1) := by decide +kernel
theorem dX1_placeOf_22 : decode cX1_placeOf 22 = .ok (.if_icmp .eq 19, 3) := by decide +kernel
theorem dX1_placeOf_25 : decode cX1_placeOf 25 = .ok (.iload_n 3, 1) := by decide +kernel
theorem dX1_placeOf_26 : decode cX1_placeOf 26 = .ok (.bipush 8, 2) := by decide +kernel
theorem dX1_placeOf_28 : decode cX1_placeOf 28 = .ok (.if_icmp .eq 13, 3) := by decide +kernel
theorem dX1_placeOf_31 : decode cX1_placeOf 31 = .ok (.iload_n 2, 1) := by decide +kernel
theorem dX1_placeOf_32 : decode cX1_placeOf 32 = .ok (.iload_n 1, 1) := by decide +kernel
theorem dX1_placeOf_33 : decode cX1_placeOf 33 = .ok (.if_icmp .ne 5, 3) := by decide +kernel
theorem dX1_placeOf_36 : decode cX1_placeOf 36 = .ok (.iload_n 3, 1) := by decide +kernel
theorem dX1_placeOf_37 : decode cX1_placeOf 37 = .ok (.ireturn, 1) := by decide +kernel
theorem dX1_placeOf_38 : decode cX1_placeOf 38 = .ok (.iinc 2 1, 3) := by decide +kernel
theorem dX1_placeOf_41 : decode cX1_placeOf 41 = .ok (.iinc 3 1, 3) := by decide +kernel
theorem dX1_placeOf_44 : decode cX1_placeOf 44 = .ok (.goto (-40), 3) := by decide +kernel
theorem dX1_placeOf_47 : decode cX1_placeOf 47 = .ok (.iconst 0, 1) := by decide +kernel
theorem dX1_placeOf_48 : decode cX1_placeOf 48 = .ok (.ireturn, 1) := by decide +kernel
abbrev cX1_bit : ByteArray := prog_3_method_2_code
def yX1_bit : MethodName := ⟨RX1, "bit", "(II)I"⟩
theorem dX1_bit_0 : decode cX1_bit 0 = .ok (.iload_n 1, 1) := by decide +kernel
theorem dX1_bit_1 : decode cX1_bit 1 = .ok (.iload_n 2, 1) := by decide +kernel
theorem dX1_bit_2 : decode cX1_bit 2 = .ok (.ishr, 1) := by decide +kernel
theorem dX1_bit_3 : decode cX1_bit 3 = .ok (.iconst 1, 1) := by decide +kernel
theorem dX1_bit_4 : decode cX1_bit 4 = .ok (.iand, 1) := by decide +kernel
theorem dX1_bit_5 : decode cX1_bit 5 = .ok (.ireturn, 1) := by decide +kernel
abbrev cX1_even : ByteArray := prog_3_method_4_code
def yX1_even : MethodName := ⟨RX1, "even", "(II)Z"⟩
theorem dX1_even_0 : decode cX1_even 0 = .ok (.iconst 0, 1) := by decide +kernel
theorem dX1_even_1 : decode cX1_even 1 = .ok (.istore_n 3, 1) := by decide +kernel
theorem dX1_even_2 : decode cX1_even 2 = .ok (.iconst 0, 1) := by decide +kernel
theorem dX1_even_3 : decode cX1_even 3 = .ok (.istore 4, 2) := by decide +kernel
theorem dX1_even_5 : decode cX1_even 5 = .ok (.iload 4, 2) := by decide +kernel
theorem dX1_even_7 : decode cX1_even 7 = .ok (.bipush 12, 2) := by decide +kernel
theorem dX1_even_9 : decode cX1_even 9 = .ok (.if_icmp .gt 30, 3) := by decide +kernel
theorem dX1_even_12 : decode cX1_even 12 = .ok (.iload_n 2, 1) := by decide +kernel
theorem dX1_even_13 : decode cX1_even 13 = .ok (.ifCond .eq 10, 3) := by decide +kernel
theorem dX1_even_16 : decode cX1_even 16 = .ok (.iload 4, 2) := by decide +kernel
theorem dX1_even_18 : decode cX1_even 18 = .ok (.iload_n 2, 1) := by decide +kernel
theorem dX1_even_19 : decode cX1_even 19 = .ok (.iand, 1) := by decide +kernel
theorem dX1_even_20 : decode cX1_even 20 = .ok (.ifCond .eq 13, 3) := by decide +kernel
theorem dX1_even_23 : decode cX1_even 23 = .ok (.iload_n 3, 1) := by decide +kernel
theorem dX1_even_24 : decode cX1_even 24 = .ok (.aload_n 0, 1) := by decide +kernel
theorem dX1_even_25 : decode cX1_even 25 = .ok (.iload_n 1, 1) := by decide +kernel
theorem dX1_even_26 : decode cX1_even 26 = .ok (.iload 4, 2) := by decide +kernel
theorem dX1_even_28 : decode cX1_even 28 = .ok (.invokevirtual 24, 3) := by decide +kernel
theorem dX1_even_31 : decode cX1_even 31 = .ok (.iadd, 1) := by decide +kernel
theorem dX1_even_32 : decode cX1_even 32 = .ok (.istore_n 3, 1) := by decide +kernel
theorem dX1_even_33 : decode cX1_even 33 = .ok (.iinc 4 1, 3) := by decide +kernel
theorem dX1_even_36 : decode cX1_even 36 = .ok (.goto (-31), 3) := by decide +kernel
theorem dX1_even_39 : decode cX1_even 39 = .ok (.iload_n 3, 1) := by decide +kernel
theorem dX1_even_40 : decode cX1_even 40 = .ok (.iconst 2, 1) := by decide +kernel
theorem dX1_even_41 : decode cX1_even 41 = .ok (.irem, 1) := by decide +kernel
theorem dX1_even_42 : decode cX1_even 42 = .ok (.ifCond .ne 7, 3) := by decide +kernel
theorem dX1_even_45 : decode cX1_even 45 = .ok (.iconst 1, 1) := by decide +kernel
theorem dX1_even_46 : decode cX1_even 46 = .ok (.goto 4, 3) := by decide +kernel
theorem dX1_even_49 : decode cX1_even 49 = .ok (.iconst 0, 1) := by decide +kernel
theorem dX1_even_50 : decode cX1_even 50 = .ok (.ireturn, 1) := by decide +kernel
abbrev cX1_write : ByteArray := prog_3_method_7_code
def yX1_write : MethodName := ⟨RX1, "write", "(II)I"⟩
theorem dX1_write_0 : decode cX1_write 0 = .ok (.aload_n 0, 1) := by decide +kernel
theorem dX1_write_1 : decode cX1_write 1 = .ok (.iload_n 1, 1) := by decide +kernel
theorem dX1_write_2 : decode cX1_write 2 = .ok (.invokevirtual 35, 3) := by decide +kernel
theorem dX1_write_5 : decode cX1_write 5 = .ok (.ifCond .eq 14, 3) := by decide +kernel
theorem dX1_write_8 : decode cX1_write 8 = .ok (.iload_n 2, 1) := by decide +kernel
theorem dX1_write_9 : decode cX1_write 9 = .ok (.ifCond .lt 10, 3) := by decide +kernel
theorem dX1_write_12 : decode cX1_write 12 = .ok (.iload_n 2, 1) := by decide +kernel
theorem dX1_write_13 : decode cX1_write 13 = .ok (.sipush 255, 3) := by decide +kernel
theorem dX1_write_16 : decode cX1_write 16 = .ok (.if_icmp .le 5, 3) := by decide +kernel
theorem dX1_write_19 : decode cX1_write 19 = .ok (.iconst (-1), 1) := by decide +kernel
theorem dX1_write_20 : decode cX1_write 20 = .ok (.ireturn, 1) := by decide +kernel
theorem dX1_write_21 : decode cX1_write 21 = .ok (.aload_n 0, 1) := by decide +kernel
theorem dX1_write_22 : decode cX1_write 22 = .ok (.getfield 7, 3) := by decide +kernel
theorem dX1_write_25 : decode cX1_write 25 = .ok (.iload_n 1, 1) := by decide +kernel
theorem dX1_write_26 : decode cX1_write 26 = .ok (.aload_n 0, 1) := by decide +kernel
theorem dX1_write_27 : decode cX1_write 27 = .ok (.getfield 13, 3) := by decide +kernel
theorem dX1_write_30 : decode cX1_write 30 = .ok (.iload_n 2, 1) := by decide +kernel
theorem dX1_write_31 : decode cX1_write 31 = .ok (.iaload, 1) := by decide +kernel
theorem dX1_write_32 : decode cX1_write 32 = .ok (.iastore, 1) := by decide +kernel
theorem dX1_write_33 : decode cX1_write 33 = .ok (.aload_n 0, 1) := by decide +kernel
theorem dX1_write_34 : decode cX1_write 34 = .ok (.getfield 7, 3) := by decide +kernel
theorem dX1_write_37 : decode cX1_write 37 = .ok (.iload_n 1, 1) := by decide +kernel
theorem dX1_write_38 : decode cX1_write 38 = .ok (.iaload, 1) := by decide +kernel
theorem dX1_write_39 : decode cX1_write 39 = .ok (.ireturn, 1) := by decide +kernel
abbrev cX1_isWord : ByteArray := prog_3_method_6_code
def yX1_isWord : MethodName := ⟨RX1, "isWord", "(I)Z"⟩
theorem dX1_isWord_0 : decode cX1_isWord 0 = .ok (.iload_n 1, 1) := by decide +kernel
theorem dX1_isWord_1 : decode cX1_isWord 1 = .ok (.ifCond .lt 13, 3) := by decide +kernel
theorem dX1_isWord_4 : decode cX1_isWord 4 = .ok (.iload_n 1, 1) := by decide +kernel
theorem dX1_isWord_5 : decode cX1_isWord 5 = .ok (.bipush 15, 2) := by decide +kernel
theorem dX1_isWord_7 : decode cX1_isWord 7 = .ok (.if_icmp .gt 7, 3) := by decide +kernel
theorem dX1_isWord_10 : decode cX1_isWord 10 = .ok (.iconst 1, 1) := by decide +kernel
theorem dX1_isWord_11 : decode cX1_isWord 11 = .ok (.goto 4, 3) := by decide +kernel
theorem dX1_isWord_14 : decode cX1_isWord 14 = .ok (.iconst 0, 1) := by decide +kernel
theorem dX1_isWord_15 : decode cX1_isWord 15 = .ok (.ireturn, 1) := by decide +kernel
abbrev cX1_flip : ByteArray := prog_3_method_8_code
def yX1_flip : MethodName := ⟨RX1, "flip", "(II)I"⟩
theorem dX1_flip_0 : decode cX1_flip 0 = .ok (.aload_n 0, 1) := by decide +kernel
theorem dX1_flip_1 : decode cX1_flip 1 = .ok (.iload_n 1, 1) := by decide +kernel
theorem dX1_flip_2 : decode cX1_flip 2 = .ok (.invokevirtual 35, 3) := by decide +kernel
theorem dX1_flip_5 : decode cX1_flip 5 = .ok (.ifCond .eq 13, 3) := by decide +kernel
theorem dX1_flip_8 : decode cX1_flip 8 = .ok (.iload_n 2, 1) := by decide +kernel
theorem dX1_flip_9 : decode cX1_flip 9 = .ok (.ifCond .lt 9, 3) := by decide +kernel
theorem dX1_flip_12 : decode cX1_flip 12 = .ok (.iload_n 2, 1) := by decide +kernel
theorem dX1_flip_13 : decode cX1_flip 13 = .ok (.bipush 12, 2) := by decide +kernel
theorem dX1_flip_15 : decode cX1_flip 15 = .ok (.if_icmp .le 5, 3) := by decide +kernel
theorem dX1_flip_18 : decode cX1_flip 18 = .ok (.iconst (-1), 1) := by decide +kernel
theorem dX1_flip_19 : decode cX1_flip 19 = .ok (.ireturn, 1) := by decide +kernel
theorem dX1_flip_20 : decode cX1_flip 20 = .ok (.aload_n 0, 1) := by decide +kernel
theorem dX1_flip_21 : decode cX1_flip 21 = .ok (.getfield 7, 3) := by decide +kernel
theorem dX1_flip_24 : decode cX1_flip 24 = .ok (.iload_n 1, 1) := by decide +kernel
theorem dX1_flip_25 : decode cX1_flip 25 = .ok (.aload_n 0, 1) := by decide +kernel
theorem dX1_flip_26 : decode cX1_flip 26 = .ok (.getfield 7, 3) := by decide +kernel
theorem dX1_flip_29 : decode cX1_flip 29 = .ok (.iload_n 1, 1) := by decide +kernel
theorem dX1_flip_30 : decode cX1_flip 30 = .ok (.iaload, 1) := by decide +kernel
theorem dX1_flip_31 : decode cX1_flip 31 = .ok (.iconst 1, 1) := by decide +kernel
theorem dX1_flip_32 : decode cX1_flip 32 = .ok (.iload_n 2, 1) := by decide +kernel
theorem dX1_flip_33 : decode cX1_flip 33 = .ok (.ishl, 1) := by decide +kernel
theorem dX1_flip_34 : decode cX1_flip 34 = .ok (.ixor, 1) := by decide +kernel
theorem dX1_flip_35 : decode cX1_flip 35 = .ok (.iastore, 1) := by decide +kernel
theorem dX1_flip_36 : decode cX1_flip 36 = .ok (.aload_n 0, 1) := by decide +kernel
theorem dX1_flip_37 : decode cX1_flip 37 = .ok (.getfield 7, 3) := by decide +kernel
theorem dX1_flip_40 : decode cX1_flip 40 = .ok (.iload_n 1, 1) := by decide +kernel
theorem dX1_flip_41 : decode cX1_flip 41 = .ok (.iaload, 1) := by decide +kernel
theorem dX1_flip_42 : decode cX1_flip 42 = .ok (.ireturn, 1) := by decide +kernel
abbrev cX1_read : ByteArray := prog_3_method_10_code
def yX1_read : MethodName := ⟨RX1, "read", "(I)I"⟩
theorem dX1_read_0 : decode cX1_read 0 = .ok (.aload_n 0, 1) := by decide +kernel
theorem dX1_read_1 : decode cX1_read 1 = .ok (.iload_n 1, 1) := by decide +kernel
theorem dX1_read_2 : decode cX1_read 2 = .ok (.invokevirtual 35, 3) := by decide +kernel
theorem dX1_read_5 : decode cX1_read 5 = .ok (.ifCond .ne 5, 3) := by decide +kernel
theorem dX1_read_8 : decode cX1_read 8 = .ok (.iconst (-1), 1) := by decide +kernel
theorem dX1_read_9 : decode cX1_read 9 = .ok (.ireturn, 1) := by decide +kernel
theorem dX1_read_10 : decode cX1_read 10 = .ok (.iconst 0, 1) := by decide +kernel
theorem dX1_read_11 : decode cX1_read 11 = .ok (.istore_n 2, 1) := by decide +kernel
theorem dX1_read_12 : decode cX1_read 12 = .ok (.iload_n 2, 1) := by decide +kernel
theorem dX1_read_13 : decode cX1_read 13 = .ok (.sipush 256, 3) := by decide +kernel
theorem dX1_read_16 : decode cX1_read 16 = .ok (.if_icmp .ge 31, 3) := by decide +kernel
theorem dX1_read_19 : decode cX1_read 19 = .ok (.aload_n 0, 1) := by decide +kernel
theorem dX1_read_20 : decode cX1_read 20 = .ok (.aload_n 0, 1) := by decide +kernel
theorem dX1_read_21 : decode cX1_read 21 = .ok (.getfield 7, 3) := by decide +kernel
theorem dX1_read_24 : decode cX1_read 24 = .ok (.iload_n 1, 1) := by decide +kernel
theorem dX1_read_25 : decode cX1_read 25 = .ok (.iaload, 1) := by decide +kernel
theorem dX1_read_26 : decode cX1_read 26 = .ok (.aload_n 0, 1) := by decide +kernel
theorem dX1_read_27 : decode cX1_read 27 = .ok (.getfield 13, 3) := by decide +kernel
theorem dX1_read_30 : decode cX1_read 30 = .ok (.iload_n 2, 1) := by decide +kernel
theorem dX1_read_31 : decode cX1_read 31 = .ok (.iaload, 1) := by decide +kernel
theorem dX1_read_32 : decode cX1_read 32 = .ok (.invokevirtual 39, 3) := by decide +kernel
theorem dX1_read_35 : decode cX1_read 35 = .ok (.iconst 1, 1) := by decide +kernel
theorem dX1_read_36 : decode cX1_read 36 = .ok (.if_icmp .gt 5, 3) := by decide +kernel
theorem dX1_read_39 : decode cX1_read 39 = .ok (.iload_n 2, 1) := by decide +kernel
theorem dX1_read_40 : decode cX1_read 40 = .ok (.ireturn, 1) := by decide +kernel
theorem dX1_read_41 : decode cX1_read 41 = .ok (.iinc 2 1, 3) := by decide +kernel
theorem dX1_read_44 : decode cX1_read 44 = .ok (.goto (-32), 3) := by decide +kernel
theorem dX1_read_47 : decode cX1_read 47 = .ok (.bipush (-2), 2) := by decide +kernel
theorem dX1_read_49 : decode cX1_read 49 = .ok (.ireturn, 1) := by decide +kernel
abbrev cX1_apart : ByteArray := prog_3_method_9_code
def yX1_apart : MethodName := ⟨RX1, "apart", "(II)I"⟩
theorem dX1_apart_0 : decode cX1_apart 0 = .ok (.iconst 0, 1) := by decide +kernel
theorem dX1_apart_1 : decode cX1_apart 1 = .ok (.istore_n 3, 1) := by decide +kernel
theorem dX1_apart_2 : decode cX1_apart 2 = .ok (.iconst 0, 1) := by decide +kernel
theorem dX1_apart_3 : decode cX1_apart 3 = .ok (.istore 4, 2) := by decide +kernel
theorem dX1_apart_5 : decode cX1_apart 5 = .ok (.iload 4, 2) := by decide +kernel
theorem dX1_apart_7 : decode cX1_apart 7 = .ok (.bipush 12, 2) := by decide +kernel
theorem dX1_apart_9 : decode cX1_apart 9 = .ok (.if_icmp .gt 29, 3) := by decide +kernel
theorem dX1_apart_12 : decode cX1_apart 12 = .ok (.aload_n 0, 1) := by decide +kernel
theorem dX1_apart_13 : decode cX1_apart 13 = .ok (.iload_n 1, 1) := by decide +kernel
theorem dX1_apart_14 : decode cX1_apart 14 = .ok (.iload 4, 2) := by decide +kernel
theorem dX1_apart_16 : decode cX1_apart 16 = .ok (.invokevirtual 24, 3) := by decide +kernel
theorem dX1_apart_19 : decode cX1_apart 19 = .ok (.aload_n 0, 1) := by decide +kernel
theorem dX1_apart_20 : decode cX1_apart 20 = .ok (.iload_n 2, 1) := by decide +kernel
theorem dX1_apart_21 : decode cX1_apart 21 = .ok (.iload 4, 2) := by decide +kernel
theorem dX1_apart_23 : decode cX1_apart 23 = .ok (.invokevirtual 24, 3) := by decide +kernel
theorem dX1_apart_26 : decode cX1_apart 26 = .ok (.if_icmp .eq 6, 3) := by decide +kernel
theorem dX1_apart_29 : decode cX1_apart 29 = .ok (.iinc 3 1, 3) := by decide +kernel
theorem dX1_apart_32 : decode cX1_apart 32 = .ok (.iinc 4 1, 3) := by decide +kernel
theorem dX1_apart_35 : decode cX1_apart 35 = .ok (.goto (-30), 3) := by decide +kernel
theorem dX1_apart_38 : decode cX1_apart 38 = .ok (.iload_n 3, 1) := by decide +kernel
theorem dX1_apart_39 : decode cX1_apart 39 = .ok (.ireturn, 1) := by decide +kernel
abbrev cX1_repair : ByteArray := prog_3_method_11_code
def yX1_repair : MethodName := ⟨RX1, "repair", "(I)I"⟩
theorem dX1_repair_0 : decode cX1_repair 0 = .ok (.aload_n 0, 1) := by decide +kernel
theorem dX1_repair_1 : decode cX1_repair 1 = .ok (.iload_n 1, 1) := by decide +kernel
theorem dX1_repair_2 : decode cX1_repair 2 = .ok (.invokevirtual 42, 3) := by decide +kernel
theorem dX1_repair_5 : decode cX1_repair 5 = .ok (.istore_n 2, 1) := by decide +kernel
theorem dX1_repair_6 : decode cX1_repair 6 = .ok (.iload_n 2, 1) := by decide +kernel
theorem dX1_repair_7 : decode cX1_repair 7 = .ok (.ifCond .ge 5, 3) := by decide +kernel
theorem dX1_repair_10 : decode cX1_repair 10 = .ok (.iload_n 2, 1) := by decide +kernel
theorem dX1_repair_11 : decode cX1_repair 11 = .ok (.ireturn, 1) := by decide +kernel
theorem dX1_repair_12 : decode cX1_repair 12 = .ok (.aload_n 0, 1) := by decide +kernel
theorem dX1_repair_13 : decode cX1_repair 13 = .ok (.getfield 7, 3) := by decide +kernel
theorem dX1_repair_16 : decode cX1_repair 16 = .ok (.iload_n 1, 1) := by decide +kernel
theorem dX1_repair_17 : decode cX1_repair 17 = .ok (.iaload, 1) := by decide +kernel
theorem dX1_repair_18 : decode cX1_repair 18 = .ok (.istore_n 3, 1) := by decide +kernel
theorem dX1_repair_19 : decode cX1_repair 19 = .ok (.aload_n 0, 1) := by decide +kernel
theorem dX1_repair_20 : decode cX1_repair 20 = .ok (.getfield 7, 3) := by decide +kernel
theorem dX1_repair_23 : decode cX1_repair 23 = .ok (.iload_n 1, 1) := by decide +kernel
theorem dX1_repair_24 : decode cX1_repair 24 = .ok (.aload_n 0, 1) := by decide +kernel
theorem dX1_repair_25 : decode cX1_repair 25 = .ok (.getfield 13, 3) := by decide +kernel
theorem dX1_repair_28 : decode cX1_repair 28 = .ok (.iload_n 2, 1) := by decide +kernel
theorem dX1_repair_29 : decode cX1_repair 29 = .ok (.iaload, 1) := by decide +kernel
theorem dX1_repair_30 : decode cX1_repair 30 = .ok (.iastore, 1) := by decide +kernel
theorem dX1_repair_31 : decode cX1_repair 31 = .ok (.iconst 0, 1) := by decide +kernel
theorem dX1_repair_32 : decode cX1_repair 32 = .ok (.istore 4, 2) := by decide +kernel
theorem dX1_repair_34 : decode cX1_repair 34 = .ok (.iload 4, 2) := by decide +kernel
theorem dX1_repair_36 : decode cX1_repair 36 = .ok (.bipush 12, 2) := by decide +kernel
theorem dX1_repair_38 : decode cX1_repair 38 = .ok (.if_icmp .gt 34, 3) := by decide +kernel
theorem dX1_repair_41 : decode cX1_repair 41 = .ok (.aload_n 0, 1) := by decide +kernel
theorem dX1_repair_42 : decode cX1_repair 42 = .ok (.iload_n 3, 1) := by decide +kernel
theorem dX1_repair_43 : decode cX1_repair 43 = .ok (.iload 4, 2) := by decide +kernel
theorem dX1_repair_45 : decode cX1_repair 45 = .ok (.invokevirtual 24, 3) := by decide +kernel
theorem dX1_repair_48 : decode cX1_repair 48 = .ok (.aload_n 0, 1) := by decide +kernel
theorem dX1_repair_49 : decode cX1_repair 49 = .ok (.aload_n 0, 1) := by decide +kernel
theorem dX1_repair_50 : decode cX1_repair 50 = .ok (.getfield 7, 3) := by decide +kernel
theorem dX1_repair_53 : decode cX1_repair 53 = .ok (.iload_n 1, 1) := by decide +kernel
theorem dX1_repair_54 : decode cX1_repair 54 = .ok (.iaload, 1) := by decide +kernel
theorem dX1_repair_55 : decode cX1_repair 55 = .ok (.iload 4, 2) := by decide +kernel
theorem dX1_repair_57 : decode cX1_repair 57 = .ok (.invokevirtual 24, 3) := by decide +kernel
theorem dX1_repair_60 : decode cX1_repair 60 = .ok (.if_icmp .eq 6, 3) := by decide +kernel
theorem dX1_repair_63 : decode cX1_repair 63 = .ok (.iload 4, 2) := by decide +kernel
theorem dX1_repair_65 : decode cX1_repair 65 = .ok (.ireturn, 1) := by decide +kernel
theorem dX1_repair_66 : decode cX1_repair 66 = .ok (.iinc 4 1, 3) := by decide +kernel
theorem dX1_repair_69 : decode cX1_repair 69 = .ok (.goto (-35), 3) := by decide +kernel
theorem dX1_repair_72 : decode cX1_repair 72 = .ok (.bipush 13, 2) := by decide +kernel
theorem dX1_repair_74 : decode cX1_repair 74 = .ok (.ireturn, 1) := by decide +kernel
abbrev cX1_scrub : ByteArray := prog_3_method_12_code
def yX1_scrub : MethodName := ⟨RX1, "scrub", "(I)I"⟩
theorem dX1_scrub_0 : decode cX1_scrub 0 = .ok (.iload_n 1, 1) := by decide +kernel
theorem dX1_scrub_1 : decode cX1_scrub 1 = .ok (.ifCond .ge 7, 3) := by decide +kernel
theorem dX1_scrub_4 : decode cX1_scrub 4 = .ok (.iconst 0, 1) := by decide +kernel
theorem dX1_scrub_5 : decode cX1_scrub 5 = .ok (.goto 15, 3) := by decide +kernel
theorem dX1_scrub_8 : decode cX1_scrub 8 = .ok (.iload_n 1, 1) := by decide +kernel
theorem dX1_scrub_9 : decode cX1_scrub 9 = .ok (.bipush 32, 2) := by decide +kernel
theorem dX1_scrub_11 : decode cX1_scrub 11 = .ok (.if_icmp .le 8, 3) := by decide +kernel
theorem dX1_scrub_14 : decode cX1_scrub 14 = .ok (.bipush 32, 2) := by decide +kernel
theorem dX1_scrub_16 : decode cX1_scrub 16 = .ok (.goto 4, 3) := by decide +kernel
theorem dX1_scrub_19 : decode cX1_scrub 19 = .ok (.iload_n 1, 1) := by decide +kernel
theorem dX1_scrub_20 : decode cX1_scrub 20 = .ok (.istore_n 2, 1) := by decide +kernel
theorem dX1_scrub_21 : decode cX1_scrub 21 = .ok (.iconst 0, 1) := by decide +kernel
theorem dX1_scrub_22 : decode cX1_scrub 22 = .ok (.istore_n 3, 1) := by decide +kernel
theorem dX1_scrub_23 : decode cX1_scrub 23 = .ok (.iconst 0, 1) := by decide +kernel
theorem dX1_scrub_24 : decode cX1_scrub 24 = .ok (.istore 4, 2) := by decide +kernel
theorem dX1_scrub_26 : decode cX1_scrub 26 = .ok (.iload 4, 2) := by decide +kernel
theorem dX1_scrub_28 : decode cX1_scrub 28 = .ok (.iload_n 2, 1) := by decide +kernel
theorem dX1_scrub_29 : decode cX1_scrub 29 = .ok (.if_icmp .ge 47, 3) := by decide +kernel
theorem dX1_scrub_32 : decode cX1_scrub 32 = .ok (.aload_n 0, 1) := by decide +kernel
theorem dX1_scrub_33 : decode cX1_scrub 33 = .ok (.aload_n 0, 1) := by decide +kernel
theorem dX1_scrub_34 : decode cX1_scrub 34 = .ok (.getfield 16, 3) := by decide +kernel
theorem dX1_scrub_37 : decode cX1_scrub 37 = .ok (.invokevirtual 45, 3) := by decide +kernel
theorem dX1_scrub_40 : decode cX1_scrub 40 = .ok (.istore 5, 2) := by decide +kernel
theorem dX1_scrub_42 : decode cX1_scrub 42 = .ok (.iload 5, 2) := by decide +kernel
theorem dX1_scrub_44 : decode cX1_scrub 44 = .ok (.ifCond .lt 13, 3) := by decide +kernel
theorem dX1_scrub_47 : decode cX1_scrub 47 = .ok (.iload 5, 2) := by decide +kernel
theorem dX1_scrub_49 : decode cX1_scrub 49 = .ok (.bipush 12, 2) := by decide +kernel
theorem dX1_scrub_51 : decode cX1_scrub 51 = .ok (.if_icmp .gt 6, 3) := by decide +kernel
theorem dX1_scrub_54 : decode cX1_scrub 54 = .ok (.iinc 3 1, 3) := by decide +kernel
theorem dX1_scrub_57 : decode cX1_scrub 57 = .ok (.aload_n 0, 1) := by decide +kernel
theorem dX1_scrub_58 : decode cX1_scrub 58 = .ok (.aload_n 0, 1) := by decide +kernel
theorem dX1_scrub_59 : decode cX1_scrub 59 = .ok (.getfield 16, 3) := by decide +kernel
theorem dX1_scrub_62 : decode cX1_scrub 62 = .ok (.iconst 1, 1) := by decide +kernel
theorem dX1_scrub_63 : decode cX1_scrub 63 = .ok (.iadd, 1) := by decide +kernel
theorem dX1_scrub_64 : decode cX1_scrub 64 = .ok (.bipush 16, 2) := by decide +kernel
theorem dX1_scrub_66 : decode cX1_scrub 66 = .ok (.irem, 1) := by decide +kernel
theorem dX1_scrub_67 : decode cX1_scrub 67 = .ok (.putfield 16, 3) := by decide +kernel
theorem dX1_scrub_70 : decode cX1_scrub 70 = .ok (.iinc 4 1, 3) := by decide +kernel
theorem dX1_scrub_73 : decode cX1_scrub 73 = .ok (.goto (-47), 3) := by decide +kernel
theorem dX1_scrub_76 : decode cX1_scrub 76 = .ok (.iload_n 3, 1) := by decide +kernel
theorem dX1_scrub_77 : decode cX1_scrub 77 = .ok (.ireturn, 1) := by decide +kernel
abbrev cX1_hand : ByteArray := prog_3_method_13_code
def yX1_hand : MethodName := ⟨RX1, "hand", "()I"⟩
theorem dX1_hand_0 : decode cX1_hand 0 = .ok (.aload_n 0, 1) := by decide +kernel
theorem dX1_hand_1 : decode cX1_hand 1 = .ok (.getfield 16, 3) := by decide +kernel
theorem dX1_hand_4 : decode cX1_hand 4 = .ok (.ireturn, 1) := by decide +kernel
abbrev cX1_broken : ByteArray := prog_3_method_14_code
def yX1_broken : MethodName := ⟨RX1, "broken", "()I"⟩
theorem dX1_broken_0 : decode cX1_broken 0 = .ok (.iconst 0, 1) := by decide +kernel
theorem dX1_broken_1 : decode cX1_broken 1 = .ok (.istore_n 1, 1) := by decide +kernel
theorem dX1_broken_2 : decode cX1_broken 2 = .ok (.iconst 0, 1) := by decide +kernel
theorem dX1_broken_3 : decode cX1_broken 3 = .ok (.istore_n 2, 1) := by decide +kernel
theorem dX1_broken_4 : decode cX1_broken 4 = .ok (.iload_n 2, 1) := by decide +kernel
theorem dX1_broken_5 : decode cX1_broken 5 = .ok (.bipush 16, 2) := by decide +kernel
theorem dX1_broken_7 : decode cX1_broken 7 = .ok (.if_icmp .ge 22, 3) := by decide +kernel
theorem dX1_broken_10 : decode cX1_broken 10 = .ok (.aload_n 0, 1) := by decide +kernel
theorem dX1_broken_11 : decode cX1_broken 11 = .ok (.iload_n 2, 1) := by decide +kernel
theorem dX1_broken_12 : decode cX1_broken 12 = .ok (.invokevirtual 42, 3) := by decide +kernel
theorem dX1_broken_15 : decode cX1_broken 15 = .ok (.bipush (-2), 2) := by decide +kernel
theorem dX1_broken_17 : decode cX1_broken 17 = .ok (.if_icmp .ne 6, 3) := by decide +kernel
theorem dX1_broken_20 : decode cX1_broken 20 = .ok (.iinc 1 1, 3) := by decide +kernel
theorem dX1_broken_23 : decode cX1_broken 23 = .ok (.iinc 2 1, 3) := by decide +kernel
theorem dX1_broken_26 : decode cX1_broken 26 = .ok (.goto (-22), 3) := by decide +kernel
theorem dX1_broken_29 : decode cX1_broken 29 = .ok (.iload_n 1, 1) := by decide +kernel
theorem dX1_broken_30 : decode cX1_broken 30 = .ok (.ireturn, 1) := by decide +kernel
abbrev cX1_marred : ByteArray := prog_3_method_15_code
def yX1_marred : MethodName := ⟨RX1, "marred", "()I"⟩
theorem dX1_marred_0 : decode cX1_marred 0 = .ok (.iconst 0, 1) := by decide +kernel
theorem dX1_marred_1 : decode cX1_marred 1 = .ok (.istore_n 1, 1) := by decide +kernel
theorem dX1_marred_2 : decode cX1_marred 2 = .ok (.iconst 0, 1) := by decide +kernel
theorem dX1_marred_3 : decode cX1_marred 3 = .ok (.istore_n 2, 1) := by decide +kernel
theorem dX1_marred_4 : decode cX1_marred 4 = .ok (.iload_n 2, 1) := by decide +kernel
theorem dX1_marred_5 : decode cX1_marred 5 = .ok (.bipush 16, 2) := by decide +kernel
theorem dX1_marred_7 : decode cX1_marred 7 = .ok (.if_icmp .ge 37, 3) := by decide +kernel
theorem dX1_marred_10 : decode cX1_marred 10 = .ok (.aload_n 0, 1) := by decide +kernel
theorem dX1_marred_11 : decode cX1_marred 11 = .ok (.iload_n 2, 1) := by decide +kernel
theorem dX1_marred_12 : decode cX1_marred 12 = .ok (.invokevirtual 42, 3) := by decide +kernel
theorem dX1_marred_15 : decode cX1_marred 15 = .ok (.istore_n 3, 1) := by decide +kernel
theorem dX1_marred_16 : decode cX1_marred 16 = .ok (.iload_n 3, 1) := by decide +kernel
theorem dX1_marred_17 : decode cX1_marred 17 = .ok (.ifCond .lt 21, 3) := by decide +kernel
theorem dX1_marred_20 : decode cX1_marred 20 = .ok (.aload_n 0, 1) := by decide +kernel
theorem dX1_marred_21 : decode cX1_marred 21 = .ok (.getfield 7, 3) := by decide +kernel
theorem dX1_marred_24 : decode cX1_marred 24 = .ok (.iload_n 2, 1) := by decide +kernel
theorem dX1_marred_25 : decode cX1_marred 25 = .ok (.iaload, 1) := by decide +kernel
theorem dX1_marred_26 : decode cX1_marred 26 = .ok (.aload_n 0, 1) := by decide +kernel
theorem dX1_marred_27 : decode cX1_marred 27 = .ok (.getfield 13, 3) := by decide +kernel
theorem dX1_marred_30 : decode cX1_marred 30 = .ok (.iload_n 3, 1) := by decide +kernel
theorem dX1_marred_31 : decode cX1_marred 31 = .ok (.iaload, 1) := by decide +kernel
theorem dX1_marred_32 : decode cX1_marred 32 = .ok (.if_icmp .eq 6, 3) := by decide +kernel
theorem dX1_marred_35 : decode cX1_marred 35 = .ok (.iinc 1 1, 3) := by decide +kernel
theorem dX1_marred_38 : decode cX1_marred 38 = .ok (.iinc 2 1, 3) := by decide +kernel
theorem dX1_marred_41 : decode cX1_marred 41 = .ok (.goto (-37), 3) := by decide +kernel
theorem dX1_marred_44 : decode cX1_marred 44 = .ok (.iload_n 1, 1) := by decide +kernel
theorem dX1_marred_45 : decode cX1_marred 45 = .ok (.ireturn, 1) := by decide +kernel
abbrev cX1_raw : ByteArray := prog_3_method_16_code
def yX1_raw : MethodName := ⟨RX1, "raw", "(I)I"⟩
theorem dX1_raw_0 : decode cX1_raw 0 = .ok (.aload_n 0, 1) := by decide +kernel
theorem dX1_raw_1 : decode cX1_raw 1 = .ok (.iload_n 1, 1) := by decide +kernel
theorem dX1_raw_2 : decode cX1_raw 2 = .ok (.invokevirtual 35, 3) := by decide +kernel
theorem dX1_raw_5 : decode cX1_raw 5 = .ok (.ifCond .eq 12, 3) := by decide +kernel
theorem dX1_raw_8 : decode cX1_raw 8 = .ok (.aload_n 0, 1) := by decide +kernel
theorem dX1_raw_9 : decode cX1_raw 9 = .ok (.getfield 7, 3) := by decide +kernel
theorem dX1_raw_12 : decode cX1_raw 12 = .ok (.iload_n 1, 1) := by decide +kernel
theorem dX1_raw_13 : decode cX1_raw 13 = .ok (.iaload, 1) := by decide +kernel
theorem dX1_raw_14 : decode cX1_raw 14 = .ok (.goto 4, 3) := by decide +kernel
theorem dX1_raw_17 : decode cX1_raw 17 = .ok (.iconst (-1), 1) := by decide +kernel
theorem dX1_raw_18 : decode cX1_raw 18 = .ok (.ireturn, 1) := by decide +kernel
abbrev cX1_distance : ByteArray := prog_3_method_17_code
def yX1_distance : MethodName := ⟨RX1, "distance", "(II)I"⟩
theorem dX1_distance_0 : decode cX1_distance 0 = .ok (.aload_n 0, 1) := by decide +kernel
theorem dX1_distance_1 : decode cX1_distance 1 = .ok (.iload_n 1, 1) := by decide +kernel
theorem dX1_distance_2 : decode cX1_distance 2 = .ok (.invokevirtual 35, 3) := by decide +kernel
theorem dX1_distance_5 : decode cX1_distance 5 = .ok (.ifCond .eq 14, 3) := by decide +kernel
theorem dX1_distance_8 : decode cX1_distance 8 = .ok (.iload_n 2, 1) := by decide +kernel
theorem dX1_distance_9 : decode cX1_distance 9 = .ok (.ifCond .lt 10, 3) := by decide +kernel
theorem dX1_distance_12 : decode cX1_distance 12 = .ok (.iload_n 2, 1) := by decide +kernel
theorem dX1_distance_13 : decode cX1_distance 13 = .ok (.sipush 255, 3) := by decide +kernel
theorem dX1_distance_16 : decode cX1_distance 16 = .ok (.if_icmp .le 5, 3) := by decide +kernel
theorem dX1_distance_19 : decode cX1_distance 19 = .ok (.iconst (-1), 1) := by decide +kernel
theorem dX1_distance_20 : decode cX1_distance 20 = .ok (.ireturn, 1) := by decide +kernel
theorem dX1_distance_21 : decode cX1_distance 21 = .ok (.aload_n 0, 1) := by decide +kernel
theorem dX1_distance_22 : decode cX1_distance 22 = .ok (.aload_n 0, 1) := by decide +kernel
theorem dX1_distance_23 : decode cX1_distance 23 = .ok (.getfield 7, 3) := by decide +kernel
theorem dX1_distance_26 : decode cX1_distance 26 = .ok (.iload_n 1, 1) := by decide +kernel
theorem dX1_distance_27 : decode cX1_distance 27 = .ok (.iaload, 1) := by decide +kernel
theorem dX1_distance_28 : decode cX1_distance 28 = .ok (.aload_n 0, 1) := by decide +kernel
theorem dX1_distance_29 : decode cX1_distance 29 = .ok (.getfield 13, 3) := by decide +kernel
theorem dX1_distance_32 : decode cX1_distance 32 = .ok (.iload_n 2, 1) := by decide +kernel
theorem dX1_distance_33 : decode cX1_distance 33 = .ok (.iaload, 1) := by decide +kernel
theorem dX1_distance_34 : decode cX1_distance 34 = .ok (.invokevirtual 39, 3) := by decide +kernel
theorem dX1_distance_37 : decode cX1_distance 37 = .ok (.ireturn, 1) := by decide +kernel
abbrev cX1_nearest : ByteArray := prog_3_method_18_code
def yX1_nearest : MethodName := ⟨RX1, "nearest", "(I)I"⟩
theorem dX1_nearest_0 : decode cX1_nearest 0 = .ok (.aload_n 0, 1) := by decide +kernel
theorem dX1_nearest_1 : decode cX1_nearest 1 = .ok (.iload_n 1, 1) := by decide +kernel
theorem dX1_nearest_2 : decode cX1_nearest 2 = .ok (.invokevirtual 35, 3) := by decide +kernel
theorem dX1_nearest_5 : decode cX1_nearest 5 = .ok (.ifCond .ne 5, 3) := by decide +kernel
theorem dX1_nearest_8 : decode cX1_nearest 8 = .ok (.iconst (-1), 1) := by decide +kernel
theorem dX1_nearest_9 : decode cX1_nearest 9 = .ok (.ireturn, 1) := by decide +kernel
theorem dX1_nearest_10 : decode cX1_nearest 10 = .ok (.bipush 13, 2) := by decide +kernel
theorem dX1_nearest_12 : decode cX1_nearest 12 = .ok (.istore_n 2, 1) := by decide +kernel
theorem dX1_nearest_13 : decode cX1_nearest 13 = .ok (.iconst 0, 1) := by decide +kernel
theorem dX1_nearest_14 : decode cX1_nearest 14 = .ok (.istore_n 3, 1) := by decide +kernel
theorem dX1_nearest_15 : decode cX1_nearest 15 = .ok (.iconst 0, 1) := by decide +kernel
theorem dX1_nearest_16 : decode cX1_nearest 16 = .ok (.istore 4, 2) := by decide +kernel
theorem dX1_nearest_18 : decode cX1_nearest 18 = .ok (.iload 4, 2) := by decide +kernel
theorem dX1_nearest_20 : decode cX1_nearest 20 = .ok (.sipush 256, 3) := by decide +kernel
theorem dX1_nearest_23 : decode cX1_nearest 23 = .ok (.if_icmp .ge 48, 3) := by decide +kernel
theorem dX1_nearest_26 : decode cX1_nearest 26 = .ok (.aload_n 0, 1) := by decide +kernel
theorem dX1_nearest_27 : decode cX1_nearest 27 = .ok (.aload_n 0, 1) := by decide +kernel
theorem dX1_nearest_28 : decode cX1_nearest 28 = .ok (.getfield 7, 3) := by decide +kernel
theorem dX1_nearest_31 : decode cX1_nearest 31 = .ok (.iload_n 1, 1) := by decide +kernel
theorem dX1_nearest_32 : decode cX1_nearest 32 = .ok (.iaload, 1) := by decide +kernel
theorem dX1_nearest_33 : decode cX1_nearest 33 = .ok (.aload_n 0, 1) := by decide +kernel
theorem dX1_nearest_34 : decode cX1_nearest 34 = .ok (.getfield 13, 3) := by decide +kernel
theorem dX1_nearest_37 : decode cX1_nearest 37 = .ok (.iload 4, 2) := by decide +kernel
theorem dX1_nearest_39 : decode cX1_nearest 39 = .ok (.iaload, 1) := by decide +kernel
theorem dX1_nearest_40 : decode cX1_nearest 40 = .ok (.invokevirtual 39, 3) := by decide +kernel
theorem dX1_nearest_43 : decode cX1_nearest 43 = .ok (.istore 5, 2) := by decide +kernel
theorem dX1_nearest_45 : decode cX1_nearest 45 = .ok (.iload 5, 2) := by decide +kernel
theorem dX1_nearest_47 : decode cX1_nearest 47 = .ok (.iload_n 2, 1) := by decide +kernel
theorem dX1_nearest_48 : decode cX1_nearest 48 = .ok (.if_icmp .ge 8, 3) := by decide +kernel
theorem dX1_nearest_51 : decode cX1_nearest 51 = .ok (.iload 5, 2) := by decide +kernel
theorem dX1_nearest_53 : decode cX1_nearest 53 = .ok (.istore_n 2, 1) := by decide +kernel
theorem dX1_nearest_54 : decode cX1_nearest 54 = .ok (.iconst 0, 1) := by decide +kernel
theorem dX1_nearest_55 : decode cX1_nearest 55 = .ok (.istore_n 3, 1) := by decide +kernel
theorem dX1_nearest_56 : decode cX1_nearest 56 = .ok (.iload 5, 2) := by decide +kernel
theorem dX1_nearest_58 : decode cX1_nearest 58 = .ok (.iload_n 2, 1) := by decide +kernel
theorem dX1_nearest_59 : decode cX1_nearest 59 = .ok (.if_icmp .ne 6, 3) := by decide +kernel
theorem dX1_nearest_62 : decode cX1_nearest 62 = .ok (.iinc 3 1, 3) := by decide +kernel
theorem dX1_nearest_65 : decode cX1_nearest 65 = .ok (.iinc 4 1, 3) := by decide +kernel
theorem dX1_nearest_68 : decode cX1_nearest 68 = .ok (.goto (-50), 3) := by decide +kernel
theorem dX1_nearest_71 : decode cX1_nearest 71 = .ok (.sipush 1000, 3) := by decide +kernel
theorem dX1_nearest_74 : decode cX1_nearest 74 = .ok (.iload_n 2, 1) := by decide +kernel
theorem dX1_nearest_75 : decode cX1_nearest 75 = .ok (.imul, 1) := by decide +kernel
theorem dX1_nearest_76 : decode cX1_nearest 76 = .ok (.iload_n 3, 1) := by decide +kernel
theorem dX1_nearest_77 : decode cX1_nearest 77 = .ok (.iadd, 1) := by decide +kernel
theorem dX1_nearest_78 : decode cX1_nearest 78 = .ok (.ireturn, 1) := by decide +kernel
abbrev cX1_mix : ByteArray := prog_3_method_19_code
def yX1_mix : MethodName := ⟨RX1, "mix", "(II)I"⟩
theorem dX1_mix_0 : decode cX1_mix 0 = .ok (.aload_n 0, 1) := by decide +kernel
theorem dX1_mix_1 : decode cX1_mix 1 = .ok (.iload_n 1, 1) := by decide +kernel
theorem dX1_mix_2 : decode cX1_mix 2 = .ok (.invokevirtual 35, 3) := by decide +kernel
theorem dX1_mix_5 : decode cX1_mix 5 = .ok (.ifCond .eq 11, 3) := by decide +kernel
theorem dX1_mix_8 : decode cX1_mix 8 = .ok (.aload_n 0, 1) := by decide +kernel
theorem dX1_mix_9 : decode cX1_mix 9 = .ok (.iload_n 2, 1) := by decide +kernel
theorem dX1_mix_10 : decode cX1_mix 10 = .ok (.invokevirtual 35, 3) := by decide +kernel
theorem dX1_mix_13 : decode cX1_mix 13 = .ok (.ifCond .ne 5, 3) := by decide +kernel
theorem dX1_mix_16 : decode cX1_mix 16 = .ok (.iconst (-1), 1) := by decide +kernel
theorem dX1_mix_17 : decode cX1_mix 17 = .ok (.ireturn, 1) := by decide +kernel
theorem dX1_mix_18 : decode cX1_mix 18 = .ok (.aload_n 0, 1) := by decide +kernel
theorem dX1_mix_19 : decode cX1_mix 19 = .ok (.iload_n 1, 1) := by decide +kernel
theorem dX1_mix_20 : decode cX1_mix 20 = .ok (.invokevirtual 42, 3) := by decide +kernel
theorem dX1_mix_23 : decode cX1_mix 23 = .ok (.istore_n 3, 1) := by decide +kernel
theorem dX1_mix_24 : decode cX1_mix 24 = .ok (.aload_n 0, 1) := by decide +kernel
theorem dX1_mix_25 : decode cX1_mix 25 = .ok (.iload_n 2, 1) := by decide +kernel
theorem dX1_mix_26 : decode cX1_mix 26 = .ok (.invokevirtual 42, 3) := by decide +kernel
theorem dX1_mix_29 : decode cX1_mix 29 = .ok (.istore 4, 2) := by decide +kernel
theorem dX1_mix_31 : decode cX1_mix 31 = .ok (.iload_n 3, 1) := by decide +kernel
theorem dX1_mix_32 : decode cX1_mix 32 = .ok (.ifCond .lt 8, 3) := by decide +kernel
theorem dX1_mix_35 : decode cX1_mix 35 = .ok (.iload 4, 2) := by decide +kernel
theorem dX1_mix_37 : decode cX1_mix 37 = .ok (.ifCond .ge 6, 3) := by decide +kernel
theorem dX1_mix_40 : decode cX1_mix 40 = .ok (.bipush (-2), 2) := by decide +kernel
theorem dX1_mix_42 : decode cX1_mix 42 = .ok (.ireturn, 1) := by decide +kernel
theorem dX1_mix_43 : decode cX1_mix 43 = .ok (.aload_n 0, 1) := by decide +kernel
theorem dX1_mix_44 : decode cX1_mix 44 = .ok (.getfield 7, 3) := by decide +kernel
theorem dX1_mix_47 : decode cX1_mix 47 = .ok (.iload_n 2, 1) := by decide +kernel
theorem dX1_mix_48 : decode cX1_mix 48 = .ok (.aload_n 0, 1) := by decide +kernel
theorem dX1_mix_49 : decode cX1_mix 49 = .ok (.getfield 13, 3) := by decide +kernel
theorem dX1_mix_52 : decode cX1_mix 52 = .ok (.iload_n 3, 1) := by decide +kernel
theorem dX1_mix_53 : decode cX1_mix 53 = .ok (.iload 4, 2) := by decide +kernel
theorem dX1_mix_55 : decode cX1_mix 55 = .ok (.ixor, 1) := by decide +kernel
theorem dX1_mix_56 : decode cX1_mix 56 = .ok (.sipush 255, 3) := by decide +kernel
theorem dX1_mix_59 : decode cX1_mix 59 = .ok (.iand, 1) := by decide +kernel
theorem dX1_mix_60 : decode cX1_mix 60 = .ok (.iaload, 1) := by decide +kernel
theorem dX1_mix_61 : decode cX1_mix 61 = .ok (.iastore, 1) := by decide +kernel
theorem dX1_mix_62 : decode cX1_mix 62 = .ok (.iload_n 3, 1) := by decide +kernel
theorem dX1_mix_63 : decode cX1_mix 63 = .ok (.iload 4, 2) := by decide +kernel
theorem dX1_mix_65 : decode cX1_mix 65 = .ok (.ixor, 1) := by decide +kernel
theorem dX1_mix_66 : decode cX1_mix 66 = .ok (.ireturn, 1) := by decide +kernel
theorem q19 : (Jvm.Cond.initialized "ScrubbedCellsModel") ∈ lw_all := lw_g (lw_at lw_m0 2 rfl) rfl
theorem q131 : (Jvm.Cond.instantiable "ScrubbedCellsModel" (3 : Nat)) ∈ lw_all := lw_g (lw_at lw_m0 114 rfl) rfl
theorem q133 : (Jvm.Cond.instanceMethod ({ cls := "ScrubbedCellsModel", name := "<init>", desc := "()V" } : Jvm.MethodName)) ∈ lw_all := lw_g (lw_at lw_m0 116 rfl) rfl
theorem q134 : (Jvm.Cond.code ({ cls := "ScrubbedCellsModel", name := "<init>", desc := "()V" } : Jvm.MethodName) prog_3_method_1_code (2 : Nat) (Option.none : Option Jvm.ClassFile.FieldType)) ∈ lw_all := lw_g (lw_at lw_m0 117 rfl) rfl
theorem q135 : (Jvm.Cond.methodLink "ScrubbedCellsModel" (1 : Nat) ({ cls := "java/lang/Object", name := "<init>", desc := "()V" } : Jvm.MethodName)) ∈ lw_all := lw_g (lw_at lw_m0 118 rfl) rfl
theorem q136 : (Jvm.Cond.methodLink "ScrubbedCellsModel" (20 : Nat) ({ cls := "ScrubbedCellsModel", name := "codeOf", desc := "(I)I" } : Jvm.MethodName)) ∈ lw_all := lw_g (lw_at lw_m0 119 rfl) rfl
theorem q138 : (Jvm.Cond.instanceMethod ({ cls := "ScrubbedCellsModel", name := "codeOf", desc := "(I)I" } : Jvm.MethodName)) ∈ lw_all := lw_g (lw_at lw_m0 121 rfl) rfl
theorem q139 : (Jvm.Cond.code ({ cls := "ScrubbedCellsModel", name := "codeOf", desc := "(I)I" } : Jvm.MethodName) prog_3_method_5_code (5 : Nat) (Option.some Jvm.ClassFile.FieldType.int)) ∈ lw_all := lw_g (lw_at lw_m0 122 rfl) rfl
theorem q140 : (Jvm.Cond.methodLink "ScrubbedCellsModel" (28 : Nat) ({ cls := "ScrubbedCellsModel", name := "placeOf", desc := "(I)I" } : Jvm.MethodName)) ∈ lw_all := lw_g (lw_at lw_m0 123 rfl) rfl
theorem q142 : (Jvm.Cond.instanceMethod ({ cls := "ScrubbedCellsModel", name := "placeOf", desc := "(I)I" } : Jvm.MethodName)) ∈ lw_all := lw_g (lw_at lw_m0 125 rfl) rfl
theorem q143 : (Jvm.Cond.code ({ cls := "ScrubbedCellsModel", name := "placeOf", desc := "(I)I" } : Jvm.MethodName) prog_3_method_3_code (4 : Nat) (Option.some Jvm.ClassFile.FieldType.int)) ∈ lw_all := lw_g (lw_at lw_m0 126 rfl) rfl
theorem q144 : (Jvm.Cond.methodLink "ScrubbedCellsModel" (24 : Nat) ({ cls := "ScrubbedCellsModel", name := "bit", desc := "(II)I" } : Jvm.MethodName)) ∈ lw_all := lw_g (lw_at lw_m0 127 rfl) rfl
theorem q146 : (Jvm.Cond.instanceMethod ({ cls := "ScrubbedCellsModel", name := "bit", desc := "(II)I" } : Jvm.MethodName)) ∈ lw_all := lw_g (lw_at lw_m0 129 rfl) rfl
theorem q147 : (Jvm.Cond.code ({ cls := "ScrubbedCellsModel", name := "bit", desc := "(II)I" } : Jvm.MethodName) prog_3_method_2_code (3 : Nat) (Option.some Jvm.ClassFile.FieldType.int)) ∈ lw_all := lw_g (lw_at lw_m0 130 rfl) rfl
theorem q148 : (Jvm.Cond.methodLink "ScrubbedCellsModel" (31 : Nat) ({ cls := "ScrubbedCellsModel", name := "even", desc := "(II)Z" } : Jvm.MethodName)) ∈ lw_all := lw_g (lw_at lw_m0 131 rfl) rfl
theorem q150 : (Jvm.Cond.instanceMethod ({ cls := "ScrubbedCellsModel", name := "even", desc := "(II)Z" } : Jvm.MethodName)) ∈ lw_all := lw_g (lw_at lw_m0 133 rfl) rfl
theorem q151 : (Jvm.Cond.code ({ cls := "ScrubbedCellsModel", name := "even", desc := "(II)Z" } : Jvm.MethodName) prog_3_method_4_code (5 : Nat) (Option.some Jvm.ClassFile.FieldType.boolean)) ∈ lw_all := lw_g (lw_at lw_m0 134 rfl) rfl
theorem q152 : (Jvm.Cond.fieldLink "ScrubbedCellsModel" (7 : Nat) "ScrubbedCellsModel" "words" "[I") ∈ lw_all := lw_g (lw_at lw_m0 135 rfl) rfl
theorem q153 : (Jvm.Cond.fieldLink "ScrubbedCellsModel" (13 : Nat) "ScrubbedCellsModel" "codes" "[I") ∈ lw_all := lw_g (lw_at lw_m0 136 rfl) rfl
theorem q154 : (Jvm.Cond.fieldLink "ScrubbedCellsModel" (16 : Nat) "ScrubbedCellsModel" "hand" "I") ∈ lw_all := lw_g (lw_at lw_m0 137 rfl) rfl
theorem q155 : (Jvm.Cond.lays "ScrubbedCellsModel" "ScrubbedCellsModel" "words" "[I") ∈ lw_all := lw_g (lw_at lw_m0 138 rfl) rfl
theorem q156 : (Jvm.Cond.soleField "ScrubbedCellsModel" "words") ∈ lw_all := lw_g (lw_at lw_m0 139 rfl) rfl
theorem q157 : (Jvm.Cond.lays "ScrubbedCellsModel" "ScrubbedCellsModel" "codes" "[I") ∈ lw_all := lw_g (lw_at lw_m0 140 rfl) rfl
theorem q158 : (Jvm.Cond.soleField "ScrubbedCellsModel" "codes") ∈ lw_all := lw_g (lw_at lw_m0 141 rfl) rfl
theorem q159 : (Jvm.Cond.lays "ScrubbedCellsModel" "ScrubbedCellsModel" "hand" "I") ∈ lw_all := lw_g (lw_at lw_m0 142 rfl) rfl
theorem q160 : (Jvm.Cond.soleField "ScrubbedCellsModel" "hand") ∈ lw_all := lw_g (lw_at lw_m0 143 rfl) rfl
theorem q161 : (Jvm.Cond.superclass "ScrubbedCellsModel" "java/lang/Object") ∈ lw_all := lw_g (lw_at lw_m0 144 rfl) rfl
theorem q164 : (Jvm.Cond.instanceMethod ({ cls := "ScrubbedCellsModel", name := "write", desc := "(II)I" } : Jvm.MethodName)) ∈ lw_all := lw_g (lw_at lw_m0 147 rfl) rfl
theorem q165 : (Jvm.Cond.selects "ScrubbedCellsModel" ({ cls := "ScrubbedCellsModel", name := "write", desc := "(II)I" } : Jvm.MethodName) ({ cls := "ScrubbedCellsModel", name := "write", desc := "(II)I" } : Jvm.MethodName)) ∈ lw_all := lw_g (lw_at lw_m0 148 rfl) rfl
theorem q166 : (Jvm.Cond.code ({ cls := "ScrubbedCellsModel", name := "write", desc := "(II)I" } : Jvm.MethodName) prog_3_method_7_code (3 : Nat) (Option.some Jvm.ClassFile.FieldType.int)) ∈ lw_all := lw_g (lw_at lw_m0 149 rfl) rfl
theorem q167 : (Jvm.Cond.methodLink "ScrubbedCellsModel" (35 : Nat) ({ cls := "ScrubbedCellsModel", name := "isWord", desc := "(I)Z" } : Jvm.MethodName)) ∈ lw_all := lw_g (lw_at lw_m0 150 rfl) rfl
theorem q169 : (Jvm.Cond.instanceMethod ({ cls := "ScrubbedCellsModel", name := "isWord", desc := "(I)Z" } : Jvm.MethodName)) ∈ lw_all := lw_g (lw_at lw_m0 152 rfl) rfl
theorem q170 : (Jvm.Cond.code ({ cls := "ScrubbedCellsModel", name := "isWord", desc := "(I)Z" } : Jvm.MethodName) prog_3_method_6_code (2 : Nat) (Option.some Jvm.ClassFile.FieldType.boolean)) ∈ lw_all := lw_g (lw_at lw_m0 153 rfl) rfl
theorem q172 : (Jvm.Cond.instanceMethod ({ cls := "ScrubbedCellsModel", name := "flip", desc := "(II)I" } : Jvm.MethodName)) ∈ lw_all := lw_g (lw_at lw_m0 155 rfl) rfl
theorem q173 : (Jvm.Cond.selects "ScrubbedCellsModel" ({ cls := "ScrubbedCellsModel", name := "flip", desc := "(II)I" } : Jvm.MethodName) ({ cls := "ScrubbedCellsModel", name := "flip", desc := "(II)I" } : Jvm.MethodName)) ∈ lw_all := lw_g (lw_at lw_m0 156 rfl) rfl
theorem q174 : (Jvm.Cond.code ({ cls := "ScrubbedCellsModel", name := "flip", desc := "(II)I" } : Jvm.MethodName) prog_3_method_8_code (3 : Nat) (Option.some Jvm.ClassFile.FieldType.int)) ∈ lw_all := lw_g (lw_at lw_m0 157 rfl) rfl
theorem q176 : (Jvm.Cond.instanceMethod ({ cls := "ScrubbedCellsModel", name := "read", desc := "(I)I" } : Jvm.MethodName)) ∈ lw_all := lw_g (lw_at lw_m0 159 rfl) rfl
theorem q177 : (Jvm.Cond.selects "ScrubbedCellsModel" ({ cls := "ScrubbedCellsModel", name := "read", desc := "(I)I" } : Jvm.MethodName) ({ cls := "ScrubbedCellsModel", name := "read", desc := "(I)I" } : Jvm.MethodName)) ∈ lw_all := lw_g (lw_at lw_m0 160 rfl) rfl
theorem q178 : (Jvm.Cond.code ({ cls := "ScrubbedCellsModel", name := "read", desc := "(I)I" } : Jvm.MethodName) prog_3_method_10_code (3 : Nat) (Option.some Jvm.ClassFile.FieldType.int)) ∈ lw_all := lw_g (lw_at lw_m0 161 rfl) rfl
theorem q179 : (Jvm.Cond.methodLink "ScrubbedCellsModel" (39 : Nat) ({ cls := "ScrubbedCellsModel", name := "apart", desc := "(II)I" } : Jvm.MethodName)) ∈ lw_all := lw_g (lw_at lw_m0 162 rfl) rfl
theorem q181 : (Jvm.Cond.instanceMethod ({ cls := "ScrubbedCellsModel", name := "apart", desc := "(II)I" } : Jvm.MethodName)) ∈ lw_all := lw_g (lw_at lw_m0 164 rfl) rfl
theorem q182 : (Jvm.Cond.code ({ cls := "ScrubbedCellsModel", name := "apart", desc := "(II)I" } : Jvm.MethodName) prog_3_method_9_code (5 : Nat) (Option.some Jvm.ClassFile.FieldType.int)) ∈ lw_all := lw_g (lw_at lw_m0 165 rfl) rfl
theorem q184 : (Jvm.Cond.instanceMethod ({ cls := "ScrubbedCellsModel", name := "repair", desc := "(I)I" } : Jvm.MethodName)) ∈ lw_all := lw_g (lw_at lw_m0 167 rfl) rfl
theorem q185 : (Jvm.Cond.selects "ScrubbedCellsModel" ({ cls := "ScrubbedCellsModel", name := "repair", desc := "(I)I" } : Jvm.MethodName) ({ cls := "ScrubbedCellsModel", name := "repair", desc := "(I)I" } : Jvm.MethodName)) ∈ lw_all := lw_g (lw_at lw_m0 168 rfl) rfl
theorem q186 : (Jvm.Cond.code ({ cls := "ScrubbedCellsModel", name := "repair", desc := "(I)I" } : Jvm.MethodName) prog_3_method_11_code (5 : Nat) (Option.some Jvm.ClassFile.FieldType.int)) ∈ lw_all := lw_g (lw_at lw_m0 169 rfl) rfl
theorem q187 : (Jvm.Cond.methodLink "ScrubbedCellsModel" (42 : Nat) ({ cls := "ScrubbedCellsModel", name := "read", desc := "(I)I" } : Jvm.MethodName)) ∈ lw_all := lw_g (lw_at lw_m0 170 rfl) rfl
theorem q189 : (Jvm.Cond.instanceMethod ({ cls := "ScrubbedCellsModel", name := "scrub", desc := "(I)I" } : Jvm.MethodName)) ∈ lw_all := lw_g (lw_at lw_m0 172 rfl) rfl
theorem q190 : (Jvm.Cond.selects "ScrubbedCellsModel" ({ cls := "ScrubbedCellsModel", name := "scrub", desc := "(I)I" } : Jvm.MethodName) ({ cls := "ScrubbedCellsModel", name := "scrub", desc := "(I)I" } : Jvm.MethodName)) ∈ lw_all := lw_g (lw_at lw_m0 173 rfl) rfl
theorem q191 : (Jvm.Cond.code ({ cls := "ScrubbedCellsModel", name := "scrub", desc := "(I)I" } : Jvm.MethodName) prog_3_method_12_code (6 : Nat) (Option.some Jvm.ClassFile.FieldType.int)) ∈ lw_all := lw_g (lw_at lw_m0 174 rfl) rfl
theorem q192 : (Jvm.Cond.methodLink "ScrubbedCellsModel" (45 : Nat) ({ cls := "ScrubbedCellsModel", name := "repair", desc := "(I)I" } : Jvm.MethodName)) ∈ lw_all := lw_g (lw_at lw_m0 175 rfl) rfl
theorem q194 : (Jvm.Cond.instanceMethod ({ cls := "ScrubbedCellsModel", name := "hand", desc := "()I" } : Jvm.MethodName)) ∈ lw_all := lw_g (lw_at lw_m0 177 rfl) rfl
theorem q195 : (Jvm.Cond.selects "ScrubbedCellsModel" ({ cls := "ScrubbedCellsModel", name := "hand", desc := "()I" } : Jvm.MethodName) ({ cls := "ScrubbedCellsModel", name := "hand", desc := "()I" } : Jvm.MethodName)) ∈ lw_all := lw_g (lw_at lw_m0 178 rfl) rfl
theorem q196 : (Jvm.Cond.code ({ cls := "ScrubbedCellsModel", name := "hand", desc := "()I" } : Jvm.MethodName) prog_3_method_13_code (1 : Nat) (Option.some Jvm.ClassFile.FieldType.int)) ∈ lw_all := lw_g (lw_at lw_m0 179 rfl) rfl
theorem q198 : (Jvm.Cond.instanceMethod ({ cls := "ScrubbedCellsModel", name := "broken", desc := "()I" } : Jvm.MethodName)) ∈ lw_all := lw_g (lw_at lw_m0 181 rfl) rfl
theorem q199 : (Jvm.Cond.selects "ScrubbedCellsModel" ({ cls := "ScrubbedCellsModel", name := "broken", desc := "()I" } : Jvm.MethodName) ({ cls := "ScrubbedCellsModel", name := "broken", desc := "()I" } : Jvm.MethodName)) ∈ lw_all := lw_g (lw_at lw_m0 182 rfl) rfl
theorem q200 : (Jvm.Cond.code ({ cls := "ScrubbedCellsModel", name := "broken", desc := "()I" } : Jvm.MethodName) prog_3_method_14_code (3 : Nat) (Option.some Jvm.ClassFile.FieldType.int)) ∈ lw_all := lw_g (lw_at lw_m0 183 rfl) rfl
theorem q202 : (Jvm.Cond.instanceMethod ({ cls := "ScrubbedCellsModel", name := "marred", desc := "()I" } : Jvm.MethodName)) ∈ lw_all := lw_g (lw_at lw_m0 185 rfl) rfl
theorem q203 : (Jvm.Cond.selects "ScrubbedCellsModel" ({ cls := "ScrubbedCellsModel", name := "marred", desc := "()I" } : Jvm.MethodName) ({ cls := "ScrubbedCellsModel", name := "marred", desc := "()I" } : Jvm.MethodName)) ∈ lw_all := lw_g (lw_at lw_m0 186 rfl) rfl
theorem q204 : (Jvm.Cond.code ({ cls := "ScrubbedCellsModel", name := "marred", desc := "()I" } : Jvm.MethodName) prog_3_method_15_code (4 : Nat) (Option.some Jvm.ClassFile.FieldType.int)) ∈ lw_all := lw_g (lw_at lw_m0 187 rfl) rfl
theorem q206 : (Jvm.Cond.instanceMethod ({ cls := "ScrubbedCellsModel", name := "raw", desc := "(I)I" } : Jvm.MethodName)) ∈ lw_all := lw_g (lw_at lw_m0 189 rfl) rfl
theorem q207 : (Jvm.Cond.selects "ScrubbedCellsModel" ({ cls := "ScrubbedCellsModel", name := "raw", desc := "(I)I" } : Jvm.MethodName) ({ cls := "ScrubbedCellsModel", name := "raw", desc := "(I)I" } : Jvm.MethodName)) ∈ lw_all := lw_g (lw_at lw_m0 190 rfl) rfl
theorem q208 : (Jvm.Cond.code ({ cls := "ScrubbedCellsModel", name := "raw", desc := "(I)I" } : Jvm.MethodName) prog_3_method_16_code (2 : Nat) (Option.some Jvm.ClassFile.FieldType.int)) ∈ lw_all := lw_g (lw_at lw_m0 191 rfl) rfl
theorem q210 : (Jvm.Cond.instanceMethod ({ cls := "ScrubbedCellsModel", name := "distance", desc := "(II)I" } : Jvm.MethodName)) ∈ lw_all := lw_g (lw_at lw_m0 193 rfl) rfl
theorem q211 : (Jvm.Cond.selects "ScrubbedCellsModel" ({ cls := "ScrubbedCellsModel", name := "distance", desc := "(II)I" } : Jvm.MethodName) ({ cls := "ScrubbedCellsModel", name := "distance", desc := "(II)I" } : Jvm.MethodName)) ∈ lw_all := lw_g (lw_at lw_m0 194 rfl) rfl
theorem q212 : (Jvm.Cond.code ({ cls := "ScrubbedCellsModel", name := "distance", desc := "(II)I" } : Jvm.MethodName) prog_3_method_17_code (3 : Nat) (Option.some Jvm.ClassFile.FieldType.int)) ∈ lw_all := lw_g (lw_at lw_m0 195 rfl) rfl
theorem q214 : (Jvm.Cond.instanceMethod ({ cls := "ScrubbedCellsModel", name := "nearest", desc := "(I)I" } : Jvm.MethodName)) ∈ lw_all := lw_g (lw_at lw_m0 197 rfl) rfl
theorem q215 : (Jvm.Cond.selects "ScrubbedCellsModel" ({ cls := "ScrubbedCellsModel", name := "nearest", desc := "(I)I" } : Jvm.MethodName) ({ cls := "ScrubbedCellsModel", name := "nearest", desc := "(I)I" } : Jvm.MethodName)) ∈ lw_all := lw_g (lw_at lw_m0 198 rfl) rfl
theorem q216 : (Jvm.Cond.code ({ cls := "ScrubbedCellsModel", name := "nearest", desc := "(I)I" } : Jvm.MethodName) prog_3_method_18_code (6 : Nat) (Option.some Jvm.ClassFile.FieldType.int)) ∈ lw_all := lw_g (lw_at lw_m0 199 rfl) rfl
theorem q218 : (Jvm.Cond.instanceMethod ({ cls := "ScrubbedCellsModel", name := "mix", desc := "(II)I" } : Jvm.MethodName)) ∈ lw_all := lw_g (lw_at lw_m0 201 rfl) rfl
theorem q219 : (Jvm.Cond.selects "ScrubbedCellsModel" ({ cls := "ScrubbedCellsModel", name := "mix", desc := "(II)I" } : Jvm.MethodName) ({ cls := "ScrubbedCellsModel", name := "mix", desc := "(II)I" } : Jvm.MethodName)) ∈ lw_all := lw_g (lw_at lw_m0 202 rfl) rfl
theorem q220 : (Jvm.Cond.code ({ cls := "ScrubbedCellsModel", name := "mix", desc := "(II)I" } : Jvm.MethodName) prog_3_method_19_code (5 : Nat) (Option.some Jvm.ClassFile.FieldType.int)) ∈ lw_all := lw_g (lw_at lw_m0 203 rfl) rfl
theorem in_X1 : ∀ w ∈ wsX10, w ∈ lw_all := lw_in wsX10 [155, 157, 159] (by decide +kernel) (by decide +kernel)
end
section
/-! the law's own entry -/
set_option maxRecDepth 100000
abbrev cL_law : ByteArray := code
theorem dL_law_0 : decode cL_law 0 = .ok (.new 7, 3) := by decide +kernel
theorem dL_law_3 : decode cL_law 3 = .ok (.dup, 1) := by decide +kernel
theorem dL_law_4 : decode cL_law 4 = .ok (.invokespecial 9, 3) := by decide +kernel
theorem dL_law_7 : decode cL_law 7 = .ok (.astore_n 1, 1) := by decide +kernel
theorem dL_law_8 : decode cL_law 8 = .ok (.new 10, 3) := by decide +kernel
theorem dL_law_11 : decode cL_law 11 = .ok (.dup, 1) := by decide +kernel
theorem dL_law_12 : decode cL_law 12 = .ok (.invokespecial 12, 3) := by decide +kernel
theorem dL_law_15 : decode cL_law 15 = .ok (.astore_n 2, 1) := by decide +kernel
theorem dL_law_16 : decode cL_law 16 = .ok (.iconst 0, 1) := by decide +kernel
theorem dL_law_17 : decode cL_law 17 = .ok (.istore_n 3, 1) := by decide +kernel
theorem dL_law_18 : decode cL_law 18 = .ok (.iload_n 3, 1) := by decide +kernel
theorem dL_law_19 : decode cL_law 19 = .ok (.aload_n 0, 1) := by decide +kernel
theorem dL_law_20 : decode cL_law 20 = .ok (.arraylength, 1) := by decide +kernel
theorem dL_law_21 : decode cL_law 21 = .ok (.iconst 3, 1) := by decide +kernel
theorem dL_law_22 : decode cL_law 22 = .ok (.isub, 1) := by decide +kernel
theorem dL_law_23 : decode cL_law 23 = .ok (.if_icmp .gt 365, 3) := by decide +kernel
theorem dL_law_26 : decode cL_law 26 = .ok (.aload_n 0, 1) := by decide +kernel
theorem dL_law_27 : decode cL_law 27 = .ok (.iload_n 3, 1) := by decide +kernel
theorem dL_law_28 : decode cL_law 28 = .ok (.iaload, 1) := by decide +kernel
theorem dL_law_29 : decode cL_law 29 = .ok (.bipush 15, 2) := by decide +kernel
theorem dL_law_31 : decode cL_law 31 = .ok (.iand, 1) := by decide +kernel
theorem dL_law_32 : decode cL_law 32 = .ok (.tableswitch 350 0 11 #[64, 97, 130, 153, 176, 199, 212, 225, 238, 261, 294, 317], 64) := by decide +kernel
theorem dL_law_96 : decode cL_law 96 = .ok (.aload_n 1, 1) := by decide +kernel
theorem dL_law_97 : decode cL_law 97 = .ok (.aload_n 0, 1) := by decide +kernel
theorem dL_law_98 : decode cL_law 98 = .ok (.iload_n 3, 1) := by decide +kernel
theorem dL_law_99 : decode cL_law 99 = .ok (.iconst 1, 1) := by decide +kernel
theorem dL_law_100 : decode cL_law 100 = .ok (.iadd, 1) := by decide +kernel
theorem dL_law_101 : decode cL_law 101 = .ok (.iaload, 1) := by decide +kernel
theorem dL_law_102 : decode cL_law 102 = .ok (.aload_n 0, 1) := by decide +kernel
theorem dL_law_103 : decode cL_law 103 = .ok (.iload_n 3, 1) := by decide +kernel
theorem dL_law_104 : decode cL_law 104 = .ok (.iconst 2, 1) := by decide +kernel
theorem dL_law_105 : decode cL_law 105 = .ok (.iadd, 1) := by decide +kernel
theorem dL_law_106 : decode cL_law 106 = .ok (.iaload, 1) := by decide +kernel
theorem dL_law_107 : decode cL_law 107 = .ok (.invokevirtual 13, 3) := by decide +kernel
theorem dL_law_110 : decode cL_law 110 = .ok (.aload_n 2, 1) := by decide +kernel
theorem dL_law_111 : decode cL_law 111 = .ok (.aload_n 0, 1) := by decide +kernel
theorem dL_law_112 : decode cL_law 112 = .ok (.iload_n 3, 1) := by decide +kernel
theorem dL_law_113 : decode cL_law 113 = .ok (.iconst 1, 1) := by decide +kernel
theorem dL_law_114 : decode cL_law 114 = .ok (.iadd, 1) := by decide +kernel
theorem dL_law_115 : decode cL_law 115 = .ok (.iaload, 1) := by decide +kernel
theorem dL_law_116 : decode cL_law 116 = .ok (.aload_n 0, 1) := by decide +kernel
theorem dL_law_117 : decode cL_law 117 = .ok (.iload_n 3, 1) := by decide +kernel
theorem dL_law_118 : decode cL_law 118 = .ok (.iconst 2, 1) := by decide +kernel
theorem dL_law_119 : decode cL_law 119 = .ok (.iadd, 1) := by decide +kernel
theorem dL_law_120 : decode cL_law 120 = .ok (.iaload, 1) := by decide +kernel
theorem dL_law_121 : decode cL_law 121 = .ok (.invokevirtual 17, 3) := by decide +kernel
theorem dL_law_124 : decode cL_law 124 = .ok (.if_icmp .eq 258, 3) := by decide +kernel
theorem dL_law_127 : decode cL_law 127 = .ok (.iconst 0, 1) := by decide +kernel
theorem dL_law_128 : decode cL_law 128 = .ok (.ireturn, 1) := by decide +kernel
theorem dL_law_129 : decode cL_law 129 = .ok (.aload_n 1, 1) := by decide +kernel
theorem dL_law_130 : decode cL_law 130 = .ok (.aload_n 0, 1) := by decide +kernel
theorem dL_law_131 : decode cL_law 131 = .ok (.iload_n 3, 1) := by decide +kernel
theorem dL_law_132 : decode cL_law 132 = .ok (.iconst 1, 1) := by decide +kernel
theorem dL_law_133 : decode cL_law 133 = .ok (.iadd, 1) := by decide +kernel
theorem dL_law_134 : decode cL_law 134 = .ok (.iaload, 1) := by decide +kernel
theorem dL_law_135 : decode cL_law 135 = .ok (.aload_n 0, 1) := by decide +kernel
theorem dL_law_136 : decode cL_law 136 = .ok (.iload_n 3, 1) := by decide +kernel
theorem dL_law_137 : decode cL_law 137 = .ok (.iconst 2, 1) := by decide +kernel
theorem dL_law_138 : decode cL_law 138 = .ok (.iadd, 1) := by decide +kernel
theorem dL_law_139 : decode cL_law 139 = .ok (.iaload, 1) := by decide +kernel
theorem dL_law_140 : decode cL_law 140 = .ok (.invokevirtual 18, 3) := by decide +kernel
theorem dL_law_143 : decode cL_law 143 = .ok (.aload_n 2, 1) := by decide +kernel
theorem dL_law_144 : decode cL_law 144 = .ok (.aload_n 0, 1) := by decide +kernel
theorem dL_law_145 : decode cL_law 145 = .ok (.iload_n 3, 1) := by decide +kernel
theorem dL_law_146 : decode cL_law 146 = .ok (.iconst 1, 1) := by decide +kernel
theorem dL_law_147 : decode cL_law 147 = .ok (.iadd, 1) := by decide +kernel
theorem dL_law_148 : decode cL_law 148 = .ok (.iaload, 1) := by decide +kernel
theorem dL_law_149 : decode cL_law 149 = .ok (.aload_n 0, 1) := by decide +kernel
theorem dL_law_150 : decode cL_law 150 = .ok (.iload_n 3, 1) := by decide +kernel
theorem dL_law_151 : decode cL_law 151 = .ok (.iconst 2, 1) := by decide +kernel
theorem dL_law_152 : decode cL_law 152 = .ok (.iadd, 1) := by decide +kernel
theorem dL_law_153 : decode cL_law 153 = .ok (.iaload, 1) := by decide +kernel
theorem dL_law_154 : decode cL_law 154 = .ok (.invokevirtual 21, 3) := by decide +kernel
theorem dL_law_157 : decode cL_law 157 = .ok (.if_icmp .eq 225, 3) := by decide +kernel
theorem dL_law_160 : decode cL_law 160 = .ok (.iconst 0, 1) := by decide +kernel
theorem dL_law_161 : decode cL_law 161 = .ok (.ireturn, 1) := by decide +kernel
theorem dL_law_162 : decode cL_law 162 = .ok (.aload_n 1, 1) := by decide +kernel
theorem dL_law_163 : decode cL_law 163 = .ok (.aload_n 0, 1) := by decide +kernel
theorem dL_law_164 : decode cL_law 164 = .ok (.iload_n 3, 1) := by decide +kernel
theorem dL_law_165 : decode cL_law 165 = .ok (.iconst 1, 1) := by decide +kernel
theorem dL_law_166 : decode cL_law 166 = .ok (.iadd, 1) := by decide +kernel
theorem dL_law_167 : decode cL_law 167 = .ok (.iaload, 1) := by decide +kernel
theorem dL_law_168 : decode cL_law 168 = .ok (.invokevirtual 22, 3) := by decide +kernel
theorem dL_law_171 : decode cL_law 171 = .ok (.aload_n 2, 1) := by decide +kernel
theorem dL_law_172 : decode cL_law 172 = .ok (.aload_n 0, 1) := by decide +kernel
theorem dL_law_173 : decode cL_law 173 = .ok (.iload_n 3, 1) := by decide +kernel
theorem dL_law_174 : decode cL_law 174 = .ok (.iconst 1, 1) := by decide +kernel
theorem dL_law_175 : decode cL_law 175 = .ok (.iadd, 1) := by decide +kernel
theorem dL_law_176 : decode cL_law 176 = .ok (.iaload, 1) := by decide +kernel
theorem dL_law_177 : decode cL_law 177 = .ok (.invokevirtual 26, 3) := by decide +kernel
theorem dL_law_180 : decode cL_law 180 = .ok (.if_icmp .eq 202, 3) := by decide +kernel
theorem dL_law_183 : decode cL_law 183 = .ok (.iconst 0, 1) := by decide +kernel
theorem dL_law_184 : decode cL_law 184 = .ok (.ireturn, 1) := by decide +kernel
theorem dL_law_185 : decode cL_law 185 = .ok (.aload_n 1, 1) := by decide +kernel
theorem dL_law_186 : decode cL_law 186 = .ok (.aload_n 0, 1) := by decide +kernel
theorem dL_law_187 : decode cL_law 187 = .ok (.iload_n 3, 1) := by decide +kernel
theorem dL_law_188 : decode cL_law 188 = .ok (.iconst 1, 1) := by decide +kernel
theorem dL_law_189 : decode cL_law 189 = .ok (.iadd, 1) := by decide +kernel
theorem dL_law_190 : decode cL_law 190 = .ok (.iaload, 1) := by decide +kernel
theorem dL_law_191 : decode cL_law 191 = .ok (.invokevirtual 27, 3) := by decide +kernel
theorem dL_law_194 : decode cL_law 194 = .ok (.aload_n 2, 1) := by decide +kernel
theorem dL_law_195 : decode cL_law 195 = .ok (.aload_n 0, 1) := by decide +kernel
theorem dL_law_196 : decode cL_law 196 = .ok (.iload_n 3, 1) := by decide +kernel
theorem dL_law_197 : decode cL_law 197 = .ok (.iconst 1, 1) := by decide +kernel
theorem dL_law_198 : decode cL_law 198 = .ok (.iadd, 1) := by decide +kernel
theorem dL_law_199 : decode cL_law 199 = .ok (.iaload, 1) := by decide +kernel
theorem dL_law_200 : decode cL_law 200 = .ok (.invokevirtual 30, 3) := by decide +kernel
theorem dL_law_203 : decode cL_law 203 = .ok (.if_icmp .eq 179, 3) := by decide +kernel
theorem dL_law_206 : decode cL_law 206 = .ok (.iconst 0, 1) := by decide +kernel
theorem dL_law_207 : decode cL_law 207 = .ok (.ireturn, 1) := by decide +kernel
theorem dL_law_208 : decode cL_law 208 = .ok (.aload_n 1, 1) := by decide +kernel
theorem dL_law_209 : decode cL_law 209 = .ok (.aload_n 0, 1) := by decide +kernel
theorem dL_law_210 : decode cL_law 210 = .ok (.iload_n 3, 1) := by decide +kernel
theorem dL_law_211 : decode cL_law 211 = .ok (.iconst 1, 1) := by decide +kernel
theorem dL_law_212 : decode cL_law 212 = .ok (.iadd, 1) := by decide +kernel
theorem dL_law_213 : decode cL_law 213 = .ok (.iaload, 1) := by decide +kernel
theorem dL_law_214 : decode cL_law 214 = .ok (.invokevirtual 31, 3) := by decide +kernel
theorem dL_law_217 : decode cL_law 217 = .ok (.aload_n 2, 1) := by decide +kernel
theorem dL_law_218 : decode cL_law 218 = .ok (.aload_n 0, 1) := by decide +kernel
theorem dL_law_219 : decode cL_law 219 = .ok (.iload_n 3, 1) := by decide +kernel
theorem dL_law_220 : decode cL_law 220 = .ok (.iconst 1, 1) := by decide +kernel
theorem dL_law_221 : decode cL_law 221 = .ok (.iadd, 1) := by decide +kernel
theorem dL_law_222 : decode cL_law 222 = .ok (.iaload, 1) := by decide +kernel
theorem dL_law_223 : decode cL_law 223 = .ok (.invokevirtual 34, 3) := by decide +kernel
theorem dL_law_226 : decode cL_law 226 = .ok (.if_icmp .eq 156, 3) := by decide +kernel
theorem dL_law_229 : decode cL_law 229 = .ok (.iconst 0, 1) := by decide +kernel
theorem dL_law_230 : decode cL_law 230 = .ok (.ireturn, 1) := by decide +kernel
theorem dL_law_231 : decode cL_law 231 = .ok (.aload_n 1, 1) := by decide +kernel
theorem dL_law_232 : decode cL_law 232 = .ok (.invokevirtual 35, 3) := by decide +kernel
theorem dL_law_235 : decode cL_law 235 = .ok (.aload_n 2, 1) := by decide +kernel
theorem dL_law_236 : decode cL_law 236 = .ok (.invokevirtual 39, 3) := by decide +kernel
theorem dL_law_239 : decode cL_law 239 = .ok (.if_icmp .eq 143, 3) := by decide +kernel
theorem dL_law_242 : decode cL_law 242 = .ok (.iconst 0, 1) := by decide +kernel
theorem dL_law_243 : decode cL_law 243 = .ok (.ireturn, 1) := by decide +kernel
theorem dL_law_244 : decode cL_law 244 = .ok (.aload_n 1, 1) := by decide +kernel
theorem dL_law_245 : decode cL_law 245 = .ok (.invokevirtual 40, 3) := by decide +kernel
theorem dL_law_248 : decode cL_law 248 = .ok (.aload_n 2, 1) := by decide +kernel
theorem dL_law_249 : decode cL_law 249 = .ok (.invokevirtual 43, 3) := by decide +kernel
theorem dL_law_252 : decode cL_law 252 = .ok (.if_icmp .eq 130, 3) := by decide +kernel
theorem dL_law_255 : decode cL_law 255 = .ok (.iconst 0, 1) := by decide +kernel
theorem dL_law_256 : decode cL_law 256 = .ok (.ireturn, 1) := by decide +kernel
theorem dL_law_257 : decode cL_law 257 = .ok (.aload_n 1, 1) := by decide +kernel
theorem dL_law_258 : decode cL_law 258 = .ok (.invokevirtual 44, 3) := by decide +kernel
theorem dL_law_261 : decode cL_law 261 = .ok (.aload_n 2, 1) := by decide +kernel
theorem dL_law_262 : decode cL_law 262 = .ok (.invokevirtual 47, 3) := by decide +kernel
theorem dL_law_265 : decode cL_law 265 = .ok (.if_icmp .eq 117, 3) := by decide +kernel
theorem dL_law_268 : decode cL_law 268 = .ok (.iconst 0, 1) := by decide +kernel
theorem dL_law_269 : decode cL_law 269 = .ok (.ireturn, 1) := by decide +kernel
theorem dL_law_270 : decode cL_law 270 = .ok (.aload_n 1, 1) := by decide +kernel
theorem dL_law_271 : decode cL_law 271 = .ok (.aload_n 0, 1) := by decide +kernel
theorem dL_law_272 : decode cL_law 272 = .ok (.iload_n 3, 1) := by decide +kernel
theorem dL_law_273 : decode cL_law 273 = .ok (.iconst 1, 1) := by decide +kernel
theorem dL_law_274 : decode cL_law 274 = .ok (.iadd, 1) := by decide +kernel
theorem dL_law_275 : decode cL_law 275 = .ok (.iaload, 1) := by decide +kernel
theorem dL_law_276 : decode cL_law 276 = .ok (.invokevirtual 48, 3) := by decide +kernel
theorem dL_law_279 : decode cL_law 279 = .ok (.aload_n 2, 1) := by decide +kernel
theorem dL_law_280 : decode cL_law 280 = .ok (.aload_n 0, 1) := by decide +kernel
theorem dL_law_281 : decode cL_law 281 = .ok (.iload_n 3, 1) := by decide +kernel
theorem dL_law_282 : decode cL_law 282 = .ok (.iconst 1, 1) := by decide +kernel
theorem dL_law_283 : decode cL_law 283 = .ok (.iadd, 1) := by decide +kernel
theorem dL_law_284 : decode cL_law 284 = .ok (.iaload, 1) := by decide +kernel
theorem dL_law_285 : decode cL_law 285 = .ok (.invokevirtual 51, 3) := by decide +kernel
theorem dL_law_288 : decode cL_law 288 = .ok (.if_icmp .eq 94, 3) := by decide +kernel
theorem dL_law_291 : decode cL_law 291 = .ok (.iconst 0, 1) := by decide +kernel
theorem dL_law_292 : decode cL_law 292 = .ok (.ireturn, 1) := by decide +kernel
theorem dL_law_293 : decode cL_law 293 = .ok (.aload_n 1, 1) := by decide +kernel
theorem dL_law_294 : decode cL_law 294 = .ok (.aload_n 0, 1) := by decide +kernel
theorem dL_law_295 : decode cL_law 295 = .ok (.iload_n 3, 1) := by decide +kernel
theorem dL_law_296 : decode cL_law 296 = .ok (.iconst 1, 1) := by decide +kernel
theorem dL_law_297 : decode cL_law 297 = .ok (.iadd, 1) := by decide +kernel
theorem dL_law_298 : decode cL_law 298 = .ok (.iaload, 1) := by decide +kernel
theorem dL_law_299 : decode cL_law 299 = .ok (.aload_n 0, 1) := by decide +kernel
theorem dL_law_300 : decode cL_law 300 = .ok (.iload_n 3, 1) := by decide +kernel
theorem dL_law_301 : decode cL_law 301 = .ok (.iconst 2, 1) := by decide +kernel
theorem dL_law_302 : decode cL_law 302 = .ok (.iadd, 1) := by decide +kernel
theorem dL_law_303 : decode cL_law 303 = .ok (.iaload, 1) := by decide +kernel
theorem dL_law_304 : decode cL_law 304 = .ok (.invokevirtual 52, 3) := by decide +kernel
theorem dL_law_307 : decode cL_law 307 = .ok (.aload_n 2, 1) := by decide +kernel
theorem dL_law_308 : decode cL_law 308 = .ok (.aload_n 0, 1) := by decide +kernel
theorem dL_law_309 : decode cL_law 309 = .ok (.iload_n 3, 1) := by decide +kernel
theorem dL_law_310 : decode cL_law 310 = .ok (.iconst 1, 1) := by decide +kernel
theorem dL_law_311 : decode cL_law 311 = .ok (.iadd, 1) := by decide +kernel
theorem dL_law_312 : decode cL_law 312 = .ok (.iaload, 1) := by decide +kernel
theorem dL_law_313 : decode cL_law 313 = .ok (.aload_n 0, 1) := by decide +kernel
theorem dL_law_314 : decode cL_law 314 = .ok (.iload_n 3, 1) := by decide +kernel
theorem dL_law_315 : decode cL_law 315 = .ok (.iconst 2, 1) := by decide +kernel
theorem dL_law_316 : decode cL_law 316 = .ok (.iadd, 1) := by decide +kernel
theorem dL_law_317 : decode cL_law 317 = .ok (.iaload, 1) := by decide +kernel
theorem dL_law_318 : decode cL_law 318 = .ok (.invokevirtual 55, 3) := by decide +kernel
theorem dL_law_321 : decode cL_law 321 = .ok (.if_icmp .eq 61, 3) := by decide +kernel
theorem dL_law_324 : decode cL_law 324 = .ok (.iconst 0, 1) := by decide +kernel
theorem dL_law_325 : decode cL_law 325 = .ok (.ireturn, 1) := by decide +kernel
theorem dL_law_326 : decode cL_law 326 = .ok (.aload_n 1, 1) := by decide +kernel
theorem dL_law_327 : decode cL_law 327 = .ok (.aload_n 0, 1) := by decide +kernel
theorem dL_law_328 : decode cL_law 328 = .ok (.iload_n 3, 1) := by decide +kernel
theorem dL_law_329 : decode cL_law 329 = .ok (.iconst 1, 1) := by decide +kernel
theorem dL_law_330 : decode cL_law 330 = .ok (.iadd, 1) := by decide +kernel
theorem dL_law_331 : decode cL_law 331 = .ok (.iaload, 1) := by decide +kernel
theorem dL_law_332 : decode cL_law 332 = .ok (.invokevirtual 56, 3) := by decide +kernel
theorem dL_law_335 : decode cL_law 335 = .ok (.aload_n 2, 1) := by decide +kernel
theorem dL_law_336 : decode cL_law 336 = .ok (.aload_n 0, 1) := by decide +kernel
theorem dL_law_337 : decode cL_law 337 = .ok (.iload_n 3, 1) := by decide +kernel
theorem dL_law_338 : decode cL_law 338 = .ok (.iconst 1, 1) := by decide +kernel
theorem dL_law_339 : decode cL_law 339 = .ok (.iadd, 1) := by decide +kernel
theorem dL_law_340 : decode cL_law 340 = .ok (.iaload, 1) := by decide +kernel
theorem dL_law_341 : decode cL_law 341 = .ok (.invokevirtual 59, 3) := by decide +kernel
theorem dL_law_344 : decode cL_law 344 = .ok (.if_icmp .eq 38, 3) := by decide +kernel
theorem dL_law_347 : decode cL_law 347 = .ok (.iconst 0, 1) := by decide +kernel
theorem dL_law_348 : decode cL_law 348 = .ok (.ireturn, 1) := by decide +kernel
theorem dL_law_349 : decode cL_law 349 = .ok (.aload_n 1, 1) := by decide +kernel
theorem dL_law_350 : decode cL_law 350 = .ok (.aload_n 0, 1) := by decide +kernel
theorem dL_law_351 : decode cL_law 351 = .ok (.iload_n 3, 1) := by decide +kernel
theorem dL_law_352 : decode cL_law 352 = .ok (.iconst 1, 1) := by decide +kernel
theorem dL_law_353 : decode cL_law 353 = .ok (.iadd, 1) := by decide +kernel
theorem dL_law_354 : decode cL_law 354 = .ok (.iaload, 1) := by decide +kernel
theorem dL_law_355 : decode cL_law 355 = .ok (.aload_n 0, 1) := by decide +kernel
theorem dL_law_356 : decode cL_law 356 = .ok (.iload_n 3, 1) := by decide +kernel
theorem dL_law_357 : decode cL_law 357 = .ok (.iconst 2, 1) := by decide +kernel
theorem dL_law_358 : decode cL_law 358 = .ok (.iadd, 1) := by decide +kernel
theorem dL_law_359 : decode cL_law 359 = .ok (.iaload, 1) := by decide +kernel
theorem dL_law_360 : decode cL_law 360 = .ok (.invokevirtual 60, 3) := by decide +kernel
theorem dL_law_363 : decode cL_law 363 = .ok (.aload_n 2, 1) := by decide +kernel
theorem dL_law_364 : decode cL_law 364 = .ok (.aload_n 0, 1) := by decide +kernel
theorem dL_law_365 : decode cL_law 365 = .ok (.iload_n 3, 1) := by decide +kernel
theorem dL_law_366 : decode cL_law 366 = .ok (.iconst 1, 1) := by decide +kernel
theorem dL_law_367 : decode cL_law 367 = .ok (.iadd, 1) := by decide +kernel
theorem dL_law_368 : decode cL_law 368 = .ok (.iaload, 1) := by decide +kernel
theorem dL_law_369 : decode cL_law 369 = .ok (.aload_n 0, 1) := by decide +kernel
theorem dL_law_370 : decode cL_law 370 = .ok (.iload_n 3, 1) := by decide +kernel
theorem dL_law_371 : decode cL_law 371 = .ok (.iconst 2, 1) := by decide +kernel
theorem dL_law_372 : decode cL_law 372 = .ok (.iadd, 1) := by decide +kernel
theorem dL_law_373 : decode cL_law 373 = .ok (.iaload, 1) := by decide +kernel
theorem dL_law_374 : decode cL_law 374 = .ok (.invokevirtual 63, 3) := by decide +kernel
theorem dL_law_377 : decode cL_law 377 = .ok (.if_icmp .eq 5, 3) := by decide +kernel
theorem dL_law_380 : decode cL_law 380 = .ok (.iconst 0, 1) := by decide +kernel
theorem dL_law_381 : decode cL_law 381 = .ok (.ireturn, 1) := by decide +kernel
theorem dL_law_382 : decode cL_law 382 = .ok (.iinc 3 3, 3) := by decide +kernel
theorem dL_law_385 : decode cL_law 385 = .ok (.goto (-367), 3) := by decide +kernel
theorem dL_law_388 : decode cL_law 388 = .ok (.iconst 1, 1) := by decide +kernel
theorem dL_law_389 : decode cL_law 389 = .ok (.ireturn, 1) := by decide +kernel
theorem q17 : (Jvm.Cond.initialized "ScrubbedCellsLaw") ∈ lw_all := lw_g (lw_at lw_m0 0 rfl) rfl
set_option maxRecDepth 100000
theorem q20 : (Jvm.Cond.classLink "ScrubbedCellsLaw" (7 : Nat) "ScrubbedCells") ∈ lw_all := lw_g (lw_at lw_m0 3 rfl) rfl
theorem q22 : (Jvm.Cond.methodLink "ScrubbedCellsLaw" (9 : Nat) ({ cls := "ScrubbedCells", name := "<init>", desc := "()V" } : Jvm.MethodName)) ∈ lw_all := lw_g (lw_at lw_m0 5 rfl) rfl
theorem q36 : (Jvm.Cond.methodLink "ScrubbedCellsLaw" (13 : Nat) ({ cls := "ScrubbedCells", name := "write", desc := "(II)I" } : Jvm.MethodName)) ∈ lw_all := lw_g (lw_at lw_m0 19 rfl) rfl
theorem q64 : (Jvm.Cond.methodLink "ScrubbedCellsLaw" (18 : Nat) ({ cls := "ScrubbedCells", name := "flip", desc := "(II)I" } : Jvm.MethodName)) ∈ lw_all := lw_g (lw_at lw_m0 47 rfl) rfl
theorem q68 : (Jvm.Cond.methodLink "ScrubbedCellsLaw" (22 : Nat) ({ cls := "ScrubbedCells", name := "read", desc := "(I)I" } : Jvm.MethodName)) ∈ lw_all := lw_g (lw_at lw_m0 51 rfl) rfl
theorem q84 : (Jvm.Cond.methodLink "ScrubbedCellsLaw" (27 : Nat) ({ cls := "ScrubbedCells", name := "repair", desc := "(I)I" } : Jvm.MethodName)) ∈ lw_all := lw_g (lw_at lw_m0 67 rfl) rfl
theorem q88 : (Jvm.Cond.methodLink "ScrubbedCellsLaw" (31 : Nat) ({ cls := "ScrubbedCells", name := "scrub", desc := "(I)I" } : Jvm.MethodName)) ∈ lw_all := lw_g (lw_at lw_m0 71 rfl) rfl
theorem q93 : (Jvm.Cond.methodLink "ScrubbedCellsLaw" (35 : Nat) ({ cls := "ScrubbedCells", name := "hand", desc := "()I" } : Jvm.MethodName)) ∈ lw_all := lw_g (lw_at lw_m0 76 rfl) rfl
theorem q97 : (Jvm.Cond.methodLink "ScrubbedCellsLaw" (40 : Nat) ({ cls := "ScrubbedCells", name := "broken", desc := "()I" } : Jvm.MethodName)) ∈ lw_all := lw_g (lw_at lw_m0 80 rfl) rfl
theorem q101 : (Jvm.Cond.methodLink "ScrubbedCellsLaw" (44 : Nat) ({ cls := "ScrubbedCells", name := "marred", desc := "()I" } : Jvm.MethodName)) ∈ lw_all := lw_g (lw_at lw_m0 84 rfl) rfl
theorem q105 : (Jvm.Cond.methodLink "ScrubbedCellsLaw" (48 : Nat) ({ cls := "ScrubbedCells", name := "raw", desc := "(I)I" } : Jvm.MethodName)) ∈ lw_all := lw_g (lw_at lw_m0 88 rfl) rfl
theorem q109 : (Jvm.Cond.methodLink "ScrubbedCellsLaw" (52 : Nat) ({ cls := "ScrubbedCells", name := "distance", desc := "(II)I" } : Jvm.MethodName)) ∈ lw_all := lw_g (lw_at lw_m0 92 rfl) rfl
theorem q113 : (Jvm.Cond.methodLink "ScrubbedCellsLaw" (56 : Nat) ({ cls := "ScrubbedCells", name := "nearest", desc := "(I)I" } : Jvm.MethodName)) ∈ lw_all := lw_g (lw_at lw_m0 96 rfl) rfl
theorem q125 : (Jvm.Cond.methodLink "ScrubbedCellsLaw" (60 : Nat) ({ cls := "ScrubbedCells", name := "mix", desc := "(II)I" } : Jvm.MethodName)) ∈ lw_all := lw_g (lw_at lw_m0 108 rfl) rfl
theorem q130 : (Jvm.Cond.classLink "ScrubbedCellsLaw" (10 : Nat) "ScrubbedCellsModel") ∈ lw_all := lw_g (lw_at lw_m0 113 rfl) rfl
theorem q132 : (Jvm.Cond.methodLink "ScrubbedCellsLaw" (12 : Nat) ({ cls := "ScrubbedCellsModel", name := "<init>", desc := "()V" } : Jvm.MethodName)) ∈ lw_all := lw_g (lw_at lw_m0 115 rfl) rfl
theorem q163 : (Jvm.Cond.methodLink "ScrubbedCellsLaw" (17 : Nat) ({ cls := "ScrubbedCellsModel", name := "write", desc := "(II)I" } : Jvm.MethodName)) ∈ lw_all := lw_g (lw_at lw_m0 146 rfl) rfl
theorem q171 : (Jvm.Cond.methodLink "ScrubbedCellsLaw" (21 : Nat) ({ cls := "ScrubbedCellsModel", name := "flip", desc := "(II)I" } : Jvm.MethodName)) ∈ lw_all := lw_g (lw_at lw_m0 154 rfl) rfl
theorem q175 : (Jvm.Cond.methodLink "ScrubbedCellsLaw" (26 : Nat) ({ cls := "ScrubbedCellsModel", name := "read", desc := "(I)I" } : Jvm.MethodName)) ∈ lw_all := lw_g (lw_at lw_m0 158 rfl) rfl
theorem q183 : (Jvm.Cond.methodLink "ScrubbedCellsLaw" (30 : Nat) ({ cls := "ScrubbedCellsModel", name := "repair", desc := "(I)I" } : Jvm.MethodName)) ∈ lw_all := lw_g (lw_at lw_m0 166 rfl) rfl
theorem q188 : (Jvm.Cond.methodLink "ScrubbedCellsLaw" (34 : Nat) ({ cls := "ScrubbedCellsModel", name := "scrub", desc := "(I)I" } : Jvm.MethodName)) ∈ lw_all := lw_g (lw_at lw_m0 171 rfl) rfl
theorem q193 : (Jvm.Cond.methodLink "ScrubbedCellsLaw" (39 : Nat) ({ cls := "ScrubbedCellsModel", name := "hand", desc := "()I" } : Jvm.MethodName)) ∈ lw_all := lw_g (lw_at lw_m0 176 rfl) rfl
theorem q197 : (Jvm.Cond.methodLink "ScrubbedCellsLaw" (43 : Nat) ({ cls := "ScrubbedCellsModel", name := "broken", desc := "()I" } : Jvm.MethodName)) ∈ lw_all := lw_g (lw_at lw_m0 180 rfl) rfl
theorem q201 : (Jvm.Cond.methodLink "ScrubbedCellsLaw" (47 : Nat) ({ cls := "ScrubbedCellsModel", name := "marred", desc := "()I" } : Jvm.MethodName)) ∈ lw_all := lw_g (lw_at lw_m0 184 rfl) rfl
theorem q205 : (Jvm.Cond.methodLink "ScrubbedCellsLaw" (51 : Nat) ({ cls := "ScrubbedCellsModel", name := "raw", desc := "(I)I" } : Jvm.MethodName)) ∈ lw_all := lw_g (lw_at lw_m0 188 rfl) rfl
theorem q209 : (Jvm.Cond.methodLink "ScrubbedCellsLaw" (55 : Nat) ({ cls := "ScrubbedCellsModel", name := "distance", desc := "(II)I" } : Jvm.MethodName)) ∈ lw_all := lw_g (lw_at lw_m0 192 rfl) rfl
theorem q213 : (Jvm.Cond.methodLink "ScrubbedCellsLaw" (59 : Nat) ({ cls := "ScrubbedCellsModel", name := "nearest", desc := "(I)I" } : Jvm.MethodName)) ∈ lw_all := lw_g (lw_at lw_m0 196 rfl) rfl
theorem q217 : (Jvm.Cond.methodLink "ScrubbedCellsLaw" (63 : Nat) ({ cls := "ScrubbedCellsModel", name := "mix", desc := "(II)I" } : Jvm.MethodName)) ∈ lw_all := lw_g (lw_at lw_m0 200 rfl) rfl
end
section
/-! base rows of this claim: pure calls (nothing of the heap changes), counting loops -/
abbrev vwCl : List vw_C := [(RX0, TX0, 2), (RX1, TX1, 3)]
/-- the receiver is an object of class C -/
def hm_rv (C : String) (b : Nat) (U : State) : Prop := ∃ cell : Cell, U.heap[b]? = some cell ∧ cell.vm.isStatics = false ∧ U.vm.findClass C = some cell.cls
section HMB
variable {p : Program} {l : Launch} {e : Env} {R : Room} {s : State} {m : MethodId} {args : Array Value} {below : List Frame} {meth : Method} {c : Code} {H : Heap} {locs : List Loc} {cells slots : Nat} {Q : State → Prop}
variable {y : MethodName} {bytes cc : ByteArray} {maxL nL n index : Nat} {rt : Option FieldType} {ws : List Cond} {rm : Room} {own C : String} {b pc : Nat} {As rest st0 : List Value} {ls : Array Slot} {r v : Int32}
theorem hm_preR (hrv : ∃ cell : Cell, H[b]? = some cell ∧ cell.vm.isStatics = false ∧ s.vm.findClass C = some cell.cls) : PreV s H C b (va_Pc (.ref b :: As) (hm_rv C b)) As := by
  refine ⟨fun a U g mk q => q, hrv, fun U hU hW => ⟨rfl, ?_⟩⟩
  obtain ⟨cell, h1, h2, h3⟩ := hrv
  exact ⟨cell, by rw [hU]; exact h1, h2, by rw [hW.alike.findClass]; exact h3⟩
/-- a method that only reads: its world -/
abbrev hm_ro (D : va_G) (cws : va_W) (tys : List (ClassId × FieldType)) (U : State) : Prop := va_P D vwCl cws U.heap ∧ va_K D vwCl tys U
theorem hm_preW {D : va_G} {cws : va_W} {tys : List (ClassId × FieldType)} {ci : Nat} {q : vw_C} {fs : List Value} (hK : va_K D vwCl tys s) (hP : va_P D vwCl cws H) (hc : vwCl[ci]? = some q) (he : cws[0]? = some (b, .inr (ci, fs))) : PreV s H q.1 b (va_Pc (.ref b :: As) (hm_ro D cws tys)) As := by
  refine ⟨fun a U g mk q => ⟨q.1, q.2.1, va_K.moved (u := U) (U := U.calling g mk a) (Vm.Alike.refl U.vm) q.2.2⟩, va_recv hK hP hc he, fun U hU hW => ⟨rfl, by rw [hU]; exact hP, va_K.moved hW.alike hK⟩⟩
theorem hm_call {Pc : Array Value → State → Prop} (S : CallFix p m c cc nL s args lw_all own) (hM : Met l y ws rm Pc (QcRead r) 0 0 (fun _ => False)) (cw : CallW R s args own C index y bytes maxL rt ws rm 0 0 n) (hp : PreV s H C b Pc As)
    (hn : As.length = n) (hsize : ls.size = nL) (hstack : st0 = As.reverse ++ .ref b :: rest) (hW : (rest.map fun v => v.category).sum ≤ 8) (hdg : decode cc pc = .ok (.invokevirtual index, 3)) (hf : cells ≤ R.cells ∧ slots ≤ R.slots)
    (kk : W p l e R s m args below meth c H locs cells slots Q (F0 m (pc + 3) ls (.int r :: rest))) : W p l e R s m args below meth c H locs cells slots Q (F0 m pc ls st0) :=
  W.callR (W.runV S hM cw hp rfl hn hsize hstack (lv_room (m := m) (pc := pc) (ls := ls) hW) hdg hf) kk
theorem hm_iret (hx : p.tables.exec = Jvm.exec) (hb : c.code = cc) (hr : meth.sig.returnType = some .int) (hlocks : meth.locks = false) (hv : v = r) (hdg : decode cc pc = .ok (.ireturn, 1)) : W p l e R s m args below meth c s.heap [] 0 0 (MQ below (QcRead r) args s 0 0 (fun _ => False)) (F0 m pc ls [.int v]) :=
  W.iret hx hb hr (fun t ht hW => ⟨by rw [hv], ht⟩) (fun q h => by cases h) hdg hlocks
theorem hm_zret (hx : p.tables.exec = Jvm.exec) (hb : c.code = cc) (hr : meth.sig.returnType = some .boolean) (hlocks : meth.locks = false) (hn : narrow .boolean (.int v) = .int v) (hv : v = r) (hdg : decode cc pc = .ok (.ireturn, 1)) : W p l e R s m args below meth c s.heap [] 0 0 (MQ below (QcRead r) args s 0 0 (fun _ => False)) (F0 m pc ls [.int v]) :=
  W.zret hx hb hr hn (fun t ht hW => ⟨by rw [hv], ht⟩) (fun q h => by cases h) hdg hlocks
end HMB
/-! counting loops: x = nI (N - n), n turns to go -/
theorem hm_nx {N n : Nat} {x : Int32} (h : n + 1 ≤ N) (e : x = nI (N - (n + 1))) : x + 1 = nI (N - n) := by
  rw [e, nI_1]; congr 1; omega
theorem hm_ge0 {N : Nat} {x K : Int32} (hK : K = nI N) (e : x = nI (N - 0)) : K ≤ x := by
  rw [hK, e, Nat.sub_zero]; exact Int32.le_refl _
theorem hm_geS {N n : Nat} {x K : Int32} (hK : K = nI N) (hN : N < 2 ^ 31) (h : n + 1 ≤ N) (e : x = nI (N - (n + 1))) : ¬ K ≤ x := by
  rw [hK, e]; exact nI_ge (by omega) hN
theorem hm_gt0 {N : Nat} {x K : Int32} (hK : K = nI N) (hN : N + 1 < 2 ^ 31) (e : x = nI (N + 1 - 0)) : K < x := by
  rw [hK, e, Nat.sub_zero]; exact nI_lt (by omega) hN
theorem hm_gtS {N n : Nat} {x K : Int32} (hK : K = nI N) (hN : N + 1 < 2 ^ 31) (h : n + 1 ≤ N + 1) (e : x = nI (N + 1 - (n + 1))) : ¬ K < x := by
  rw [hK, e]; exact nI_nlt (by omega) (by omega)
theorem hm_in {N n : Nat} {x : Int32} (hN : N < 2 ^ 31) (h : n + 1 ≤ N) (e : x = nI (N - (n + 1))) : vp_in x N := by
  rw [e]; exact vp_in_nI (by omega) hN
theorem hm_in2 {x M : Int32} {n : Nat} (hM : M.toInt = n) (h : ¬ x < 0) (h5 : x ≤ M) (hn : n + 1 < 2 ^ 31) : vp_in x (n + 1) := by
  obtain ⟨j, hj, rfl⟩ := nI_of2 hM h h5
  exact vp_in_nI (by omega) hn
end
section
/-! the pure pictures of the methods: what each computes, written as its bytecode does -/
def hm_isWord (w : Int32) : Int32 := if w < 0 then 0 else if 15 < w then 0 else 1
theorem hm_isWord_in {w : Int32} (h : ¬ hm_isWord w = 0) : vp_in w 16 := by
  unfold hm_isWord at h
  by_cases h1 : w < 0
  · rw [if_pos h1] at h; exact absurd rfl h
  · rw [if_neg h1] at h
    by_cases h2 : 15 < w
    · rw [if_pos h2] at h; exact absurd rfl h
    · exact hm_in2 (M := 15) (n := 15) (by decide) h1 (Int32.not_lt.mp h2) (by decide)
def hm_onesL (w : Int32) : Nat → Int32 → Int32 → Int32
  | 0, a, _ => a
  | n + 1, a, b => hm_onesL w n (a + ((w >>> (b &&& 31)) &&& 1)) (b + 1)
def hm_ones (w : Int32) : Int32 := hm_onesL w 13 0 0
def hm_isOdd (w : Int32) : Int32 := if (hm_ones w &&& 1) = 0 then 0 else 1
def hm_chkL (w : Int32) : Nat → Int32 → Int32 → Int32
  | 0, a, _ => a
  | n + 1, a, b => if ((w >>> (b &&& 31)) &&& 1) = 0 then hm_chkL w n a (b + 1) else hm_chkL w n (a ^^^ b) (b + 1)
def hm_chk (w : Int32) : Int32 := hm_chkL w 12 0 1
def hm_sprL (v : Int32) : Nat → Int32 → Int32 → Int32 → Int32
  | 0, a, _, _ => a
  | n + 1, a, k, b => if (b &&& (b - 1)) = 0 then hm_sprL v n a k (b + 1) else hm_sprL v n (a ||| (((v >>> (k &&& 31)) &&& 1) <<< (b &&& 31))) (k + 1) (b + 1)
def hm_spr (v : Int32) : Int32 := hm_sprL v 10 0 0 3
def hm_bytL (v : Int32) : Nat → Int32 → Int32 → Int32 → Int32
  | 0, a, _, _ => a
  | n + 1, a, k, b => if (b &&& (b - 1)) = 0 then hm_bytL v n a k (b + 1) else hm_bytL v n (a ||| (((v >>> (b &&& 31)) &&& 1) <<< (k &&& 31))) (k + 1) (b + 1)
def hm_byt (v : Int32) : Int32 := hm_bytL v 10 0 0 3
def hm_encL (c : Int32) : Nat → Int32 → Int32 → Int32
  | 0, a, _ => a
  | n + 1, a, w => if (c &&& w) = 0 then hm_encL c n a (w * 2) else hm_encL c n (a ||| ((1 : Int32) <<< (w &&& 31))) (w * 2)
def hm_encW (v : Int32) : Int32 := hm_encL (hm_chk (hm_spr v)) 4 (hm_spr v) 1
def hm_enc (v : Int32) : Int32 := if hm_isOdd (hm_encW v) = 0 then hm_encW v else hm_encW v ||| 1
def hm_wrong (w : Int32) : Int32 := if hm_isOdd w = 0 then (if hm_chk w = 0 then 13 else -2) else (if 12 < hm_chk w then -2 else hm_chk w)
def hm_mend (w k : Int32) : Int32 := if k = 13 then w else w ^^^ ((1 : Int32) <<< (k &&& 31))
def hm_w2L (c : Int32) : Nat → Int32 → Int32 → Int32
  | 0, k, _ => k
  | n + 1, k, a => if (a ^^^ c) ≤ a then hm_w2L c n k (a + 1) else if 13 ≤ (a ^^^ c) then hm_w2L c n k (a + 1) else hm_w2L c n (k + 1) (a + 1)
def hm_w2 (c : Int32) : Int32 := hm_w2L c 13 0 0
def hm_w3i (c a : Int32) : Nat → Int32 → Int32 → Int32
  | 0, k, _ => k
  | n + 1, k, b => if ((a ^^^ b) ^^^ c) ≤ b then hm_w3i c a n k (b + 1) else if 13 ≤ ((a ^^^ b) ^^^ c) then hm_w3i c a n k (b + 1) else hm_w3i c a n (k + 1) (b + 1)
def hm_w3L (c : Int32) : Nat → Int32 → Int32 → Int32
  | 0, k, _ => k
  | n + 1, k, a => hm_w3L c n (hm_w3i c a n k (a + 1)) (a + 1)
def hm_w3 (c : Int32) : Int32 := hm_w3L c 13 0 0
def hm_read (f : Nat → Int32) (w : Int32) : Int32 := if hm_isWord w = 0 then -1 else if hm_wrong (f w.toNatClampNeg) = -2 then -2 else hm_byt (hm_mend (f w.toNatClampNeg) (hm_wrong (f w.toNatClampNeg)))
def hm_raw (f : Nat → Int32) (w : Int32) : Int32 := if hm_isWord w = 0 then -1 else f w.toNatClampNeg
def hm_dist (f : Nat → Int32) (w v : Int32) : Int32 := if hm_isWord w = 0 then -1 else if v < 0 then -1 else if v ≤ 255 then hm_ones (f w.toNatClampNeg ^^^ hm_enc v) else -1
def hm_brkL (f : Nat → Int32) : Nat → Int32 → Int32 → Int32
  | 0, k, _ => k
  | n + 1, k, w => if hm_wrong (f w.toNatClampNeg) = -2 then hm_brkL f n (k + 1) (w + 1) else hm_brkL f n k (w + 1)
def hm_brk (f : Nat → Int32) : Int32 := hm_brkL f 16 0 0
def hm_marL (f : Nat → Int32) : Nat → Int32 → Int32 → Int32
  | 0, k, _ => k
  | n + 1, k, w => if hm_wrong (f w.toNatClampNeg) < 0 then hm_marL f n k (w + 1) else if 13 ≤ hm_wrong (f w.toNatClampNeg) then hm_marL f n k (w + 1) else hm_marL f n (k + 1) (w + 1)
def hm_mar (f : Nat → Int32) : Int32 := hm_marL f 16 0 0
def hm_nearW (x : Int32) : Int32 := if hm_wrong x = 13 then 1 else if hm_wrong x < 0 then (if hm_isOdd x = 0 then 2000 + hm_w2 (hm_chk x) else 3000 + hm_w3 (hm_chk x)) else 1001
def hm_near (f : Nat → Int32) (w : Int32) : Int32 := if hm_isWord w = 0 then -1 else hm_nearW (f w.toNatClampNeg)
/-- a short as it is stored -/
def hm_sh (x : Int32) : Int32 := vp_nar .short x.toInt16.toInt32
def hm_write (f : Nat → Int32) (w v : Int32) : Int32 × (Nat → Int32) := if hm_isWord w = 0 then (-1, f) else if v < 0 then (-1, f) else if v ≤ 255 then (upd f w.toNatClampNeg (hm_sh (hm_enc v)) w.toNatClampNeg, upd f w.toNatClampNeg (hm_sh (hm_enc v))) else (-1, f)
def hm_flip (f : Nat → Int32) (w v : Int32) : Int32 × (Nat → Int32) := if hm_isWord w = 0 then (-1, f) else if v < 0 then (-1, f) else if v ≤ 12 then (upd f w.toNatClampNeg (hm_sh (f w.toNatClampNeg ^^^ ((1 : Int32) <<< (v &&& 31)))) w.toNatClampNeg, upd f w.toNatClampNeg (hm_sh (f w.toNatClampNeg ^^^ ((1 : Int32) <<< (v &&& 31))))) else (-1, f)
def hm_rep (f : Nat → Int32) (w : Int32) : Int32 × (Nat → Int32) := if hm_isWord w = 0 then (-1, f) else if hm_wrong (f w.toNatClampNeg) < 0 then (hm_wrong (f w.toNatClampNeg), f) else (hm_wrong (f w.toNatClampNeg), upd f w.toNatClampNeg (hm_sh (hm_mend (f w.toNatClampNeg) (hm_wrong (f w.toNatClampNeg)))))
def hm_left (c : Int32) : Int32 := if 0 ≤ c then (if c ≤ 32 then c else 32) else 0
def hm_scrL : Nat → (Nat → Int32) → Int32 → Int32 → Int32 × (Nat → Int32) × Int32
  | 0, f, h, t => (t, f, h)
  | n + 1, f, h, t => if (hm_rep f h).1 < 0 then hm_scrL n (hm_rep f h).2 ((h + 1) &&& 15) t else if 13 ≤ (hm_rep f h).1 then hm_scrL n (hm_rep f h).2 ((h + 1) &&& 15) t else hm_scrL n (hm_rep f h).2 ((h + 1) &&& 15) (t + 1)
def hm_scr (f : Nat → Int32) (h c : Int32) : Int32 × (Nat → Int32) × Int32 := hm_scrL (hm_left c).toNatClampNeg f h 0
def hm_mix (f : Nat → Int32) (w v : Int32) : Int32 × (Nat → Int32) := if hm_isWord w = 0 then (-1, f) else if hm_isWord v = 0 then (-1, f) else if hm_read f w = -2 then (-2, f) else if hm_read f v = -2 then (-2, f) else (hm_read f w ^^^ hm_read f v, upd f v.toNatClampNeg (hm_sh (hm_enc (hm_read f w ^^^ hm_read f v))))
/-! the reference -/
def mo_bit (w i : Int32) : Int32 := (w >>> (i &&& 31)) &&& 1
def mo_plaL (k : Int32) : Nat → Int32 → Int32 → Int32
  | 0, _, _ => 0
  | r + 1, n, i => if i = 1 then mo_plaL k r n (i + 1) else if i = 2 then mo_plaL k r n (i + 1) else if i = 4 then mo_plaL k r n (i + 1) else if i = 8 then mo_plaL k r n (i + 1) else if n = k then i else mo_plaL k r (n + 1) (i + 1)
def mo_pla (k : Int32) : Int32 := mo_plaL k 12 0 1
def mo_evL (x w : Int32) : Nat → Int32 → Int32 → Int32
  | 0, o, _ => o
  | r + 1, o, i => if w = 0 then mo_evL x w r (o + mo_bit x i) (i + 1) else if (i &&& w) = 0 then mo_evL x w r o (i + 1) else mo_evL x w r (o + mo_bit x i) (i + 1)
def mo_even (x w : Int32) : Int32 := if (mo_evL x w 13 0 0 - mo_evL x w 13 0 0 / 2 * 2) = 0 then 1 else 0
def mo_codL (v : Int32) : Nat → Int32 → Int32 → Int32
  | 0, a, _ => a
  | r + 1, a, k => mo_codL v r (a ||| (mo_bit v k <<< (mo_pla k &&& 31))) (k + 1)
def mo_or (x w b : Int32) : Int32 := if mo_even x w = 0 then x ||| b else x
def mo_code (v : Int32) : Int32 := mo_or (mo_or (mo_or (mo_or (mo_or (mo_codL v 8 0 0) 1 2) 2 4) 4 16) 8 256) 0 1
def mo_apL (x y : Int32) : Nat → Int32 → Int32 → Int32
  | 0, k, _ => k
  | r + 1, k, i => if mo_bit x i = mo_bit y i then mo_apL x y r k (i + 1) else mo_apL x y r (k + 1) (i + 1)
def mo_ap (x y : Int32) : Int32 := mo_apL x y 13 0 0
def mo_readL (x : Int32) (g : Nat → Int32) : Nat → Int32 → Int32
  | 0, _ => -2
  | r + 1, b => if 1 < mo_ap x (g b.toNatClampNeg) then mo_readL x g r (b + 1) else b
def mo_read (f g : Nat → Int32) (w : Int32) : Int32 := if hm_isWord w = 0 then -1 else mo_readL (f w.toNatClampNeg) g 256 0
def mo_difL (x y : Int32) : Nat → Int32 → Int32
  | 0, _ => 13
  | r + 1, i => if mo_bit x i = mo_bit y i then mo_difL x y r (i + 1) else i
def mo_rep (f g : Nat → Int32) (w : Int32) : Int32 × (Nat → Int32) := if 0 ≤ mo_read f g w then (mo_difL (f w.toNatClampNeg) (upd f w.toNatClampNeg (g (mo_read f g w).toNatClampNeg) w.toNatClampNeg) 13 0, upd f w.toNatClampNeg (g (mo_read f g w).toNatClampNeg)) else (mo_read f g w, f)
def mo_scrL (g : Nat → Int32) : Nat → (Nat → Int32) → Int32 → Int32 → Int32 × (Nat → Int32) × Int32
  | 0, f, h, t => (t, f, h)
  | n + 1, f, h, t => if (mo_rep f g h).1 < 0 then mo_scrL g n (mo_rep f g h).2 ((h + 1) - (h + 1) / 16 * 16) t else if 12 < (mo_rep f g h).1 then mo_scrL g n (mo_rep f g h).2 ((h + 1) - (h + 1) / 16 * 16) t else mo_scrL g n (mo_rep f g h).2 ((h + 1) - (h + 1) / 16 * 16) (t + 1)
def mo_scr (f g : Nat → Int32) (h c : Int32) : Int32 × (Nat → Int32) × Int32 := mo_scrL g (hm_left c).toNatClampNeg f h 0
def mo_brkL (f g : Nat → Int32) : Nat → Int32 → Int32 → Int32
  | 0, k, _ => k
  | n + 1, k, w => if mo_read f g w = -2 then mo_brkL f g n (k + 1) (w + 1) else mo_brkL f g n k (w + 1)
def mo_brk (f g : Nat → Int32) : Int32 := mo_brkL f g 16 0 0
def mo_marL (f g : Nat → Int32) : Nat → Int32 → Int32 → Int32
  | 0, k, _ => k
  | n + 1, k, w => if mo_read f g w < 0 then mo_marL f g n k (w + 1) else if f w.toNatClampNeg = g (mo_read f g w).toNatClampNeg then mo_marL f g n k (w + 1) else mo_marL f g n (k + 1) (w + 1)
def mo_mar (f g : Nat → Int32) : Int32 := mo_marL f g 16 0 0
def mo_dist (f g : Nat → Int32) (w v : Int32) : Int32 := if hm_isWord w = 0 then -1 else if v < 0 then -1 else if v ≤ 255 then mo_ap (f w.toNatClampNeg) (g v.toNatClampNeg) else -1
def mo_nearL (x : Int32) (g : Nat → Int32) : Nat → Int32 → Int32 → Int32 → Int32
  | 0, a, k, _ => 1000 * a + k
  | n + 1, a, k, b => if a ≤ mo_ap x (g b.toNatClampNeg) then (if mo_ap x (g b.toNatClampNeg) = a then mo_nearL x g n a (k + 1) (b + 1) else mo_nearL x g n a k (b + 1)) else (if mo_ap x (g b.toNatClampNeg) = mo_ap x (g b.toNatClampNeg) then mo_nearL x g n (mo_ap x (g b.toNatClampNeg)) (0 + 1) (b + 1) else mo_nearL x g n (mo_ap x (g b.toNatClampNeg)) 0 (b + 1))
def mo_near (f g : Nat → Int32) (w : Int32) : Int32 := if hm_isWord w = 0 then -1 else mo_nearL (f w.toNatClampNeg) g 256 13 0 0
def mo_write (f g : Nat → Int32) (w v : Int32) : Int32 × (Nat → Int32) := if hm_isWord w = 0 then (-1, f) else if v < 0 then (-1, f) else if v ≤ 255 then (upd f w.toNatClampNeg (g v.toNatClampNeg) w.toNatClampNeg, upd f w.toNatClampNeg (g v.toNatClampNeg)) else (-1, f)
def mo_flip (f : Nat → Int32) (w v : Int32) : Int32 × (Nat → Int32) := if hm_isWord w = 0 then (-1, f) else if v < 0 then (-1, f) else if v ≤ 12 then (upd f w.toNatClampNeg (f w.toNatClampNeg ^^^ ((1 : Int32) <<< (v &&& 31))) w.toNatClampNeg, upd f w.toNatClampNeg (f w.toNatClampNeg ^^^ ((1 : Int32) <<< (v &&& 31)))) else (-1, f)
def mo_mix (f g : Nat → Int32) (w v : Int32) : Int32 × (Nat → Int32) := if hm_isWord w = 0 then (-1, f) else if hm_isWord v = 0 then (-1, f) else if mo_read f g w < 0 then (-2, f) else if 0 ≤ mo_read f g v then (mo_read f g w ^^^ mo_read f g v, upd f v.toNatClampNeg (g ((mo_read f g w ^^^ mo_read f g v) &&& 255).toNatClampNeg)) else (-2, f)
/-! the places that the reference reads are there -/
theorem mo_readL_in {x : Int32} {g : Nat → Int32} : ∀ (r : Nat) (b : Int32), r ≤ 256 → b = nI (256 - r) → ¬ mo_readL x g r b < 0 → vp_in (mo_readL x g r b) 256 := by
  intro r
  induction r with
  | zero => intro b _ _ h; exact absurd (show (-2 : Int32) < 0 by decide) h
  | succ r ih =>
    intro b hr e h
    unfold mo_readL at h ⊢
    by_cases hc : 1 < mo_ap x (g b.toNatClampNeg)
    · rw [if_pos hc] at h ⊢
      exact ih (b + 1) (by omega) (hm_nx hr e) h
    · rw [if_neg hc]
      exact hm_in (by decide) hr e
theorem mo_read_in {f g : Nat → Int32} {w : Int32} (h : ¬ mo_read f g w < 0) : vp_in (mo_read f g w) 256 ∧ vp_in w 16 := by
  unfold mo_read at h ⊢
  by_cases hw : hm_isWord w = 0
  · rw [if_pos hw] at h; exact absurd (show (-1 : Int32) < 0 by decide) h
  · rw [if_neg hw] at h ⊢
    exact ⟨mo_readL_in 256 0 (Nat.le_refl _) (by decide) h, hm_isWord_in hw⟩
end
section
/-! the loop over 1, 2, 4, 8 -/
theorem hm_e0 {x : Int32} (e : x = nI (2 ^ (4 - 0))) : 8 < x := by rw [e]; decide
theorem hm_eS {n : Nat} {x : Int32} (h : n + 1 ≤ 4) (e : x = nI (2 ^ (4 - (n + 1)))) : ¬ 8 < x := by
  rw [e]
  have : n = 0 ∨ n = 1 ∨ n = 2 ∨ n = 3 := by omega
  rcases this with rfl | rfl | rfl | rfl <;> decide
theorem hm_eN {n : Nat} {x : Int32} (h : n + 1 ≤ 4) (e : x = nI (2 ^ (4 - (n + 1)))) : x * 2 = nI (2 ^ (4 - n)) := by
  rw [e]
  have : n = 0 ∨ n = 1 ∨ n = 2 ∨ n = 3 := by omega
  rcases this with rfl | rfl | rfl | rfl <;> decide
theorem hm_i0 (N : Nat) : (0 : Int32) = nI (N - N) := by rw [Nat.sub_self]; rfl
theorem hm_left_ex (c : Int32) : ∃ j : Nat, j ≤ 32 ∧ hm_left c = nI j := by
  unfold hm_left
  by_cases h1 : 0 ≤ c
  · rw [if_pos h1]
    by_cases h2 : c ≤ 32
    · rw [if_pos h2]
      exact nI_of2 (M := 32) (by decide) (Int32.not_lt.mpr h1) h2
    · rw [if_neg h2]
      exact ⟨32, by omega, rfl⟩
  · rw [if_neg h1]
    exact ⟨0, by omega, rfl⟩
theorem hm_left_nI (c : Int32) : hm_left c = nI (hm_left c).toNatClampNeg := by
  obtain ⟨j, hj, e⟩ := hm_left_ex c
  rw [e, nI_clamp (by omega)]
theorem hm_left_le (c : Int32) : (hm_left c).toNatClampNeg ≤ 32 := by
  obtain ⟨j, hj, e⟩ := hm_left_ex c
  rw [e, nI_clamp (by omega)]; exact hj
theorem hm_left_lt (c : Int32) : (hm_left c).toNatClampNeg < 2 ^ 31 := Nat.lt_of_le_of_lt (hm_left_le c) (by decide)
theorem mo_or_t {x w b : Int32} (h : mo_even x w = 0) : mo_or x w b = x ||| b := by rw [mo_or, if_pos h]
theorem mo_or_f {x w b : Int32} (h : ¬ mo_even x w = 0) : mo_or x w b = x := by rw [mo_or, if_neg h]
end
section
set_option maxHeartbeats 4000000 in
set_option maxRecDepth 100000 in
theorem mt_X0_isWord (l : Launch) (h0 : Nat) (x1 : Int32) : Met l yX0_isWord (ws_ yX0_isWord cX0_isWord 2 (some .boolean)) ({ frames := 0, cells := 0, slots := 0, locals := 0 }) (va_Pc [.ref h0, .int x1] (hm_rv RX0 h0)) (QcRead (hm_isWord x1)) 0 0 (fun _ => False) := by
  refine Met.ofW (cc := cX0_isWord) (maxL := 2) (ret := (some .boolean)) (by decide) rfl ?_
  intro p e s m args below meth c s₁ B hml hv
  obtain ⟨rfl, hrv⟩ := hv
  have hx := B.exec
  have hb := B.bytes
  have hr := B.returns
  have hts := atoms_spec (ws := (ws_ yX0_isWord cX0_isWord 2 (some .boolean))) B.pre
  have hts : ∀ w ∈ lw_all, w.before _ s = true := fun w h => hts w (List.mem_cons_of_mem _ h)
  have hown : s.vm.findClass RX0 = some m.cls := findClass_of_methodNamed B.named
  have hlocks := B.notSynchronized
  have S : CallFix p m c cX0_isWord 2 s _ lw_all RX0 := ⟨hx, hb, hml, hown, hts⟩
  have hl := lv_entry ([.ref h0, .int x1]) (n := 2) (Nat.le_of_ble_eq_true rfl)
  rw [lg_entry_eq]
  generalize (lg_sl ([.ref h0, .int x1]) ++ List.replicate (2 - (lg_sl ([.ref h0, .int x1])).length) Slot.unset).toArray = ls at hl ⊢
  have hl : lv_has ls 2 [(0, .ref h0), (1, .int x1)] := hl
  refine lv_iload_n hx hb dX0_isWord_0 rfl (lv_at hl 1 rfl) ?_
  refine lv_if_lt (tgt := 14) hx hb dX0_isWord_1 (by decide) (fun c1 => ?_) (fun c1 => ?_)
  · refine lv_iconst (v := 0) hx hb dX0_isWord_14 (by decide) ?_
    exact hm_zret hx hb hr hlocks rfl (by rw [hm_isWord, if_pos c1]) dX0_isWord_15
  · refine lv_iload_n hx hb dX0_isWord_4 rfl (lv_at hl 1 rfl) ?_
    refine lv_bipush (v := 15) hx hb dX0_isWord_5 (by decide) ?_
    refine lv_icmp_gt (tgt := 14) hx hb dX0_isWord_7 (by decide) (fun c7 => ?_) (fun c7 => ?_)
    · refine lv_iconst (v := 0) hx hb dX0_isWord_14 (by decide) ?_
      exact hm_zret hx hb hr hlocks rfl (by rw [hm_isWord, if_neg c1, if_pos c7]) dX0_isWord_15
    · refine lv_iconst (v := 1) hx hb dX0_isWord_10 (by decide) ?_
      refine lv_goto (tgt := 15) hx hb dX0_isWord_11 (by decide) ?_
      exact hm_zret hx hb hr hlocks rfl (by rw [hm_isWord, if_neg c1, if_neg c7]) dX0_isWord_15
set_option maxHeartbeats 4000000 in
theorem ca_X0_isWord {p : Program} {l : Launch} {e : Env} {R : Room} {s : State} {m : MethodId} {args : Array Value} {below : List Frame} {meth : Method} {c : Code} {H : Heap} {locs : List Loc} {cells slots : Nat} {Q : State → Prop} {cc : ByteArray} {nL pc : Nat} {ls : Array Slot} {rest : List Value} {x1 : Int32} {h0 : Nat} (S : CallFix p m c cc nL s args lw_all RX0) (hR : 0 + 1 ≤ R.frames ∧ 8 + (2 + 11) + 0 ≤ R.locals) (hrv : ∃ cell : Cell, H[h0]? = some cell ∧ cell.vm.isStatics = false ∧ s.vm.findClass RX0 = some cell.cls) (hsize : ls.size = nL) (hW : (rest.map fun v => v.category).sum ≤ 8) (hdg : decode cc pc = .ok (.invokevirtual 13, 3)) (hf : cells ≤ R.cells ∧ slots ≤ R.slots) (kk : W p l e R s m args below meth c H locs cells slots Q (F0 m (pc + 3) ls (.int (hm_isWord x1) :: rest))) : W p l e R s m args below meth c H locs cells slots Q (F0 m pc ls (.int x1 :: .ref h0 :: rest)) :=
  hm_call (As := [.int x1]) S (mt_X0_isWord l h0 x1) (cwV 1 S.2.2.2.2 (lw_V q40 q42 qs0 q18 q43) rfl rfl rfl (by decide +kernel) hR) (hm_preR hrv) rfl hsize rfl hW hdg hf kk
set_option maxHeartbeats 4000000 in
set_option maxRecDepth 100000 in
theorem mt_X0_onesIn (l : Launch) (h0 : Nat) (x1 : Int32) : Met l yX0_onesIn (ws_ yX0_onesIn cX0_onesIn 4 (some .int)) ({ frames := 0, cells := 0, slots := 0, locals := 0 }) (va_Pc [.ref h0, .int x1] (hm_rv RX0 h0)) (QcRead (hm_ones x1)) 0 0 (fun _ => False) := by
  refine Met.ofW (cc := cX0_onesIn) (maxL := 4) (ret := (some .int)) (by decide) rfl ?_
  intro p e s m args below meth c s₁ B hml hv
  obtain ⟨rfl, hrv⟩ := hv
  have hx := B.exec
  have hb := B.bytes
  have hr := B.returns
  have hts := atoms_spec (ws := (ws_ yX0_onesIn cX0_onesIn 4 (some .int))) B.pre
  have hts : ∀ w ∈ lw_all, w.before _ s = true := fun w h => hts w (List.mem_cons_of_mem _ h)
  have hown : s.vm.findClass RX0 = some m.cls := findClass_of_methodNamed B.named
  have hlocks := B.notSynchronized
  have S : CallFix p m c cX0_onesIn 4 s _ lw_all RX0 := ⟨hx, hb, hml, hown, hts⟩
  have hl := lv_entry ([.ref h0, .int x1]) (n := 4) (Nat.le_of_ble_eq_true rfl)
  rw [lg_entry_eq]
  generalize (lg_sl ([.ref h0, .int x1]) ++ List.replicate (4 - (lg_sl ([.ref h0, .int x1])).length) Slot.unset).toArray = ls at hl ⊢
  have hl : lv_has ls 4 [(0, .ref h0), (1, .int x1)] := hl
  refine lv_iconst (v := 0) hx hb dX0_onesIn_0 (by decide) ?_
  refine lv_istore_n (lv' := [(2, .int 0), (0, .ref h0), (1, .int x1)]) hx hb dX0_onesIn_1 rfl hl (by decide) rfl (fun ls hl => ?_)
  refine lv_iconst (v := 0) hx hb dX0_onesIn_2 (by decide) ?_
  refine lv_istore_n (lv' := [(3, .int 0), (2, .int 0), (0, .ref h0), (1, .int x1)]) hx hb dX0_onesIn_3 rfl hl (by decide) rfl (fun ls hl => ?_)
  obtain ⟨T4, hT4⟩ : ∃ T, T = hm_onesL x1 13 0 0 := ⟨_, rfl⟩
  have lp4 : ∀ (n4 : Nat) (x2_4 x3_4 : Int32), n4 ≤ 13 → x3_4 = nI (13 - n4) → hm_onesL x1 n4 x2_4 x3_4 = T4 → ∀ ls : Array Slot, lv_has ls 4 [(3, .int x3_4), (2, .int x2_4), (0, .ref h0), (1, .int x1)] → W p l e (headSpec (ws_ yX0_onesIn cX0_onesIn 4 (some .int)) ({ frames := 0, cells := 0, slots := 0, locals := 0 })).room s m ([.ref h0, .int x1] : List Value).toArray below meth c s.heap [] 0 0 (MQ below (QcRead (hm_ones x1)) ([.ref h0, .int x1] : List Value).toArray s 0 0 (fun _ => False)) (F0 m 4 ls []) := by
    intro n4
    induction n4 with
    | zero =>
      intro x2_4 x3_4 hn4 e4 hI4 ls hl
      refine lv_iload_n hx hb dX0_onesIn_4 rfl (lv_at hl 0 rfl) ?_
      refine lv_bipush (v := 13) hx hb dX0_onesIn_5 (by decide) ?_
      refine lv_icmp_ge (tgt := 24) hx hb dX0_onesIn_7 (by decide) (fun c7 => ?_) (fun c7 => ?_)
      · obtain rfl : x2_4 = hm_onesL x1 13 0 0 := (show x2_4 = T4 from hI4).trans hT4
        refine lv_iload_n hx hb dX0_onesIn_24 rfl (lv_at hl 1 rfl) ?_
        exact hm_iret hx hb hr hlocks (by rw [hm_ones]) dX0_onesIn_25
      · exact absurd (hm_ge0 (N := 13) rfl e4) c7
    | succ n4 ih4 =>
      intro x2_4 x3_4 hn4 e4 hI4 ls hl
      refine lv_iload_n hx hb dX0_onesIn_4 rfl (lv_at hl 0 rfl) ?_
      refine lv_bipush (v := 13) hx hb dX0_onesIn_5 (by decide) ?_
      refine lv_icmp_ge (tgt := 24) hx hb dX0_onesIn_7 (by decide) (fun c7 => ?_) (fun c7 => ?_)
      · exact absurd c7 (hm_geS (N := 13) rfl (by decide) hn4 e4)
      · refine lv_iload_n hx hb dX0_onesIn_10 rfl (lv_at hl 1 rfl) ?_
        refine lv_iload_n hx hb dX0_onesIn_11 rfl (lv_at hl 3 rfl) ?_
        refine lv_iload_n hx hb dX0_onesIn_12 rfl (lv_at hl 0 rfl) ?_
        refine lv_ishr hx hb dX0_onesIn_13 ?_
        refine lv_iconst (v := 1) hx hb dX0_onesIn_14 (by decide) ?_
        refine lv_iand hx hb dX0_onesIn_15 ?_
        refine lv_iadd hx hb dX0_onesIn_16 ?_
        refine lv_istore_n (lv' := [(2, .int (x2_4 + ((x1 >>> (x3_4 &&& 31)) &&& 1))), (3, .int x3_4), (0, .ref h0), (1, .int x1)]) hx hb dX0_onesIn_17 rfl hl (by decide) rfl (fun ls hl => ?_)
        refine lv_iinc (v := (x3_4 + 1)) (lv' := [(3, .int (x3_4 + 1)), (2, .int (x2_4 + ((x1 >>> (x3_4 &&& 31)) &&& 1))), (0, .ref h0), (1, .int x1)]) hx hb dX0_onesIn_18 hl (k := 1) rfl rfl (by decide) rfl (fun ls hl => ?_)
        refine lv_goto (tgt := 4) hx hb dX0_onesIn_21 (by decide) ?_
        exact ih4 (x2_4 + ((x1 >>> (x3_4 &&& 31)) &&& 1)) (x3_4 + 1) (Nat.le_of_succ_le hn4) (hm_nx hn4 e4) hI4 ls (lv_sub hl [0, 1, 2, 3] rfl)
  exact lp4 13 0 0 (by omega) (by decide) hT4.symm ls hl
set_option maxHeartbeats 4000000 in
theorem ca_X0_onesIn {p : Program} {l : Launch} {e : Env} {R : Room} {s : State} {m : MethodId} {args : Array Value} {below : List Frame} {meth : Method} {c : Code} {H : Heap} {locs : List Loc} {cells slots : Nat} {Q : State → Prop} {cc : ByteArray} {nL pc : Nat} {ls : Array Slot} {rest : List Value} {x1 : Int32} {h0 : Nat} (S : CallFix p m c cc nL s args lw_all RX0) (hR : 0 + 1 ≤ R.frames ∧ 8 + (4 + 11) + 0 ≤ R.locals) (hrv : ∃ cell : Cell, H[h0]? = some cell ∧ cell.vm.isStatics = false ∧ s.vm.findClass RX0 = some cell.cls) (hsize : ls.size = nL) (hW : (rest.map fun v => v.category).sum ≤ 8) (hdg : decode cc pc = .ok (.invokevirtual 38, 3)) (hf : cells ≤ R.cells ∧ slots ≤ R.slots) (kk : W p l e R s m args below meth c H locs cells slots Q (F0 m (pc + 3) ls (.int (hm_ones x1) :: rest))) : W p l e R s m args below meth c H locs cells slots Q (F0 m pc ls (.int x1 :: .ref h0 :: rest)) :=
  hm_call (As := [.int x1]) S (mt_X0_onesIn l h0 x1) (cwV 1 S.2.2.2.2 (lw_V q60 q62 qs5 q18 q63) rfl rfl rfl (by decide +kernel) hR) (hm_preR hrv) rfl hsize rfl hW hdg hf kk
set_option maxHeartbeats 4000000 in
set_option maxRecDepth 100000 in
theorem mt_X0_isOdd (l : Launch) (h0 : Nat) (x1 : Int32) : Met l yX0_isOdd (ws_ yX0_isOdd cX0_isOdd 3 (some .boolean)) ({ frames := 1, cells := 0, slots := 0, locals := 23 }) (va_Pc [.ref h0, .int x1] (hm_rv RX0 h0)) (QcRead (hm_isOdd x1)) 0 0 (fun _ => False) := by
  refine Met.ofW (cc := cX0_isOdd) (maxL := 3) (ret := (some .boolean)) (by decide) rfl ?_
  intro p e s m args below meth c s₁ B hml hv
  obtain ⟨rfl, hrv⟩ := hv
  have hx := B.exec
  have hb := B.bytes
  have hr := B.returns
  have hts := atoms_spec (ws := (ws_ yX0_isOdd cX0_isOdd 3 (some .boolean))) B.pre
  have hts : ∀ w ∈ lw_all, w.before _ s = true := fun w h => hts w (List.mem_cons_of_mem _ h)
  have hown : s.vm.findClass RX0 = some m.cls := findClass_of_methodNamed B.named
  have hlocks := B.notSynchronized
  have S : CallFix p m c cX0_isOdd 3 s _ lw_all RX0 := ⟨hx, hb, hml, hown, hts⟩
  have hl := lv_entry ([.ref h0, .int x1]) (n := 3) (Nat.le_of_ble_eq_true rfl)
  rw [lg_entry_eq]
  generalize (lg_sl ([.ref h0, .int x1]) ++ List.replicate (3 - (lg_sl ([.ref h0, .int x1])).length) Slot.unset).toArray = ls at hl ⊢
  have hl : lv_has ls 3 [(0, .ref h0), (1, .int x1)] := hl
  refine lv_aload_n hx hb dX0_isOdd_0 rfl (lv_at hl 0 rfl) ?_
  refine lv_iload_n hx hb dX0_isOdd_1 rfl (lv_at hl 1 rfl) ?_
  refine ca_X0_onesIn S ⟨Nat.le_of_ble_eq_true rfl, Nat.le_of_ble_eq_true rfl⟩ hrv hl.1 (Nat.le_of_ble_eq_true rfl) dX0_isOdd_2 ⟨Nat.zero_le _, Nat.zero_le _⟩ ?_
  refine lv_istore_n (lv' := [(2, .int (hm_ones x1)), (0, .ref h0), (1, .int x1)]) hx hb dX0_isOdd_5 rfl hl (by decide) rfl (fun ls hl => ?_)
  refine lv_iload_n hx hb dX0_isOdd_6 rfl (lv_at hl 0 rfl) ?_
  refine lv_iconst (v := 1) hx hb dX0_isOdd_7 (by decide) ?_
  refine lv_iand hx hb dX0_isOdd_8 ?_
  refine lv_if_eq (tgt := 16) hx hb dX0_isOdd_9 (by decide) (fun c9 => ?_) (fun c9 => ?_)
  · refine lv_iconst (v := 0) hx hb dX0_isOdd_16 (by decide) ?_
    exact hm_zret hx hb hr hlocks rfl (by rw [hm_isOdd, if_pos c9]) dX0_isOdd_17
  · refine lv_iconst (v := 1) hx hb dX0_isOdd_12 (by decide) ?_
    refine lv_goto (tgt := 17) hx hb dX0_isOdd_13 (by decide) ?_
    exact hm_zret hx hb hr hlocks rfl (by rw [hm_isOdd, if_neg c9]) dX0_isOdd_17
set_option maxHeartbeats 4000000 in
theorem ca_X0_isOdd {p : Program} {l : Launch} {e : Env} {R : Room} {s : State} {m : MethodId} {args : Array Value} {below : List Frame} {meth : Method} {c : Code} {H : Heap} {locs : List Loc} {cells slots : Nat} {Q : State → Prop} {cc : ByteArray} {nL pc : Nat} {ls : Array Slot} {rest : List Value} {x1 : Int32} {h0 : Nat} (S : CallFix p m c cc nL s args lw_all RX0) (hR : 1 + 1 ≤ R.frames ∧ 8 + (3 + 11) + 23 ≤ R.locals) (hrv : ∃ cell : Cell, H[h0]? = some cell ∧ cell.vm.isStatics = false ∧ s.vm.findClass RX0 = some cell.cls) (hsize : ls.size = nL) (hW : (rest.map fun v => v.category).sum ≤ 8) (hdg : decode cc pc = .ok (.invokevirtual 44, 3)) (hf : cells ≤ R.cells ∧ slots ≤ R.slots) (kk : W p l e R s m args below meth c H locs cells slots Q (F0 m (pc + 3) ls (.int (hm_isOdd x1) :: rest))) : W p l e R s m args below meth c H locs cells slots Q (F0 m pc ls (.int x1 :: .ref h0 :: rest)) :=
  hm_call (As := [.int x1]) S (mt_X0_isOdd l h0 x1) (cwV 1 S.2.2.2.2 (lw_V q56 q58 qs4 q18 q59) rfl rfl rfl (by decide +kernel) hR) (hm_preR hrv) rfl hsize rfl hW hdg hf kk
set_option maxHeartbeats 4000000 in
set_option maxRecDepth 100000 in
theorem mt_X0_checksOf (l : Launch) (h0 : Nat) (x1 : Int32) : Met l yX0_checksOf (ws_ yX0_checksOf cX0_checksOf 4 (some .int)) ({ frames := 0, cells := 0, slots := 0, locals := 0 }) (va_Pc [.ref h0, .int x1] (hm_rv RX0 h0)) (QcRead (hm_chk x1)) 0 0 (fun _ => False) := by
  refine Met.ofW (cc := cX0_checksOf) (maxL := 4) (ret := (some .int)) (by decide) rfl ?_
  intro p e s m args below meth c s₁ B hml hv
  obtain ⟨rfl, hrv⟩ := hv
  have hx := B.exec
  have hb := B.bytes
  have hr := B.returns
  have hts := atoms_spec (ws := (ws_ yX0_checksOf cX0_checksOf 4 (some .int))) B.pre
  have hts : ∀ w ∈ lw_all, w.before _ s = true := fun w h => hts w (List.mem_cons_of_mem _ h)
  have hown : s.vm.findClass RX0 = some m.cls := findClass_of_methodNamed B.named
  have hlocks := B.notSynchronized
  have S : CallFix p m c cX0_checksOf 4 s _ lw_all RX0 := ⟨hx, hb, hml, hown, hts⟩
  have hl := lv_entry ([.ref h0, .int x1]) (n := 4) (Nat.le_of_ble_eq_true rfl)
  rw [lg_entry_eq]
  generalize (lg_sl ([.ref h0, .int x1]) ++ List.replicate (4 - (lg_sl ([.ref h0, .int x1])).length) Slot.unset).toArray = ls at hl ⊢
  have hl : lv_has ls 4 [(0, .ref h0), (1, .int x1)] := hl
  refine lv_iconst (v := 0) hx hb dX0_checksOf_0 (by decide) ?_
  refine lv_istore_n (lv' := [(2, .int 0), (0, .ref h0), (1, .int x1)]) hx hb dX0_checksOf_1 rfl hl (by decide) rfl (fun ls hl => ?_)
  refine lv_iconst (v := 1) hx hb dX0_checksOf_2 (by decide) ?_
  refine lv_istore_n (lv' := [(3, .int 1), (2, .int 0), (0, .ref h0), (1, .int x1)]) hx hb dX0_checksOf_3 rfl hl (by decide) rfl (fun ls hl => ?_)
  obtain ⟨T4, hT4⟩ : ∃ T, T = hm_chkL x1 12 0 1 := ⟨_, rfl⟩
  have lp4 : ∀ (n4 : Nat) (x2_4 x3_4 : Int32), n4 ≤ 13 → x3_4 = nI (13 - n4) → hm_chkL x1 n4 x2_4 x3_4 = T4 → ∀ ls : Array Slot, lv_has ls 4 [(3, .int x3_4), (2, .int x2_4), (0, .ref h0), (1, .int x1)] → W p l e (headSpec (ws_ yX0_checksOf cX0_checksOf 4 (some .int)) ({ frames := 0, cells := 0, slots := 0, locals := 0 })).room s m ([.ref h0, .int x1] : List Value).toArray below meth c s.heap [] 0 0 (MQ below (QcRead (hm_chk x1)) ([.ref h0, .int x1] : List Value).toArray s 0 0 (fun _ => False)) (F0 m 4 ls []) := by
    intro n4
    induction n4 with
    | zero =>
      intro x2_4 x3_4 hn4 e4 hI4 ls hl
      refine lv_iload_n hx hb dX0_checksOf_4 rfl (lv_at hl 0 rfl) ?_
      refine lv_bipush (v := 13) hx hb dX0_checksOf_5 (by decide) ?_
      refine lv_icmp_ge (tgt := 28) hx hb dX0_checksOf_7 (by decide) (fun c7 => ?_) (fun c7 => ?_)
      · obtain rfl : x2_4 = hm_chkL x1 12 0 1 := (show x2_4 = T4 from hI4).trans hT4
        refine lv_iload_n hx hb dX0_checksOf_28 rfl (lv_at hl 1 rfl) ?_
        exact hm_iret hx hb hr hlocks (by rw [hm_chk]) dX0_checksOf_29
      · exact absurd (hm_ge0 (N := 13) rfl e4) c7
    | succ n4 ih4 =>
      intro x2_4 x3_4 hn4 e4 hI4 ls hl
      refine lv_iload_n hx hb dX0_checksOf_4 rfl (lv_at hl 0 rfl) ?_
      refine lv_bipush (v := 13) hx hb dX0_checksOf_5 (by decide) ?_
      refine lv_icmp_ge (tgt := 28) hx hb dX0_checksOf_7 (by decide) (fun c7 => ?_) (fun c7 => ?_)
      · exact absurd c7 (hm_geS (N := 13) rfl (by decide) hn4 e4)
      · refine lv_iload_n hx hb dX0_checksOf_10 rfl (lv_at hl 3 rfl) ?_
        refine lv_iload_n hx hb dX0_checksOf_11 rfl (lv_at hl 0 rfl) ?_
        refine lv_ishr hx hb dX0_checksOf_12 ?_
        refine lv_iconst (v := 1) hx hb dX0_checksOf_13 (by decide) ?_
        refine lv_iand hx hb dX0_checksOf_14 ?_
        refine lv_if_eq (tgt := 22) hx hb dX0_checksOf_15 (by decide) (fun c15 => ?_) (fun c15 => ?_)
        · refine lv_iinc (v := (x3_4 + 1)) (lv' := [(3, .int (x3_4 + 1)), (2, .int x2_4), (0, .ref h0), (1, .int x1)]) hx hb dX0_checksOf_22 hl (k := 0) rfl rfl (by decide) rfl (fun ls hl => ?_)
          refine lv_goto (tgt := 4) hx hb dX0_checksOf_25 (by decide) ?_
          exact ih4 x2_4 (x3_4 + 1) (Nat.le_of_succ_le hn4) (hm_nx hn4 e4) (by rw [hm_chkL, if_pos c15] at hI4; exact hI4) ls (lv_sub hl [0, 1, 2, 3] rfl)
        · refine lv_iload_n hx hb dX0_checksOf_18 rfl (lv_at hl 1 rfl) ?_
          refine lv_iload_n hx hb dX0_checksOf_19 rfl (lv_at hl 0 rfl) ?_
          refine lv_ixor hx hb dX0_checksOf_20 ?_
          refine lv_istore_n (lv' := [(2, .int (x2_4 ^^^ x3_4)), (3, .int x3_4), (0, .ref h0), (1, .int x1)]) hx hb dX0_checksOf_21 rfl hl (by decide) rfl (fun ls hl => ?_)
          refine lv_iinc (v := (x3_4 + 1)) (lv' := [(3, .int (x3_4 + 1)), (2, .int (x2_4 ^^^ x3_4)), (0, .ref h0), (1, .int x1)]) hx hb dX0_checksOf_22 hl (k := 1) rfl rfl (by decide) rfl (fun ls hl => ?_)
          refine lv_goto (tgt := 4) hx hb dX0_checksOf_25 (by decide) ?_
          exact ih4 (x2_4 ^^^ x3_4) (x3_4 + 1) (Nat.le_of_succ_le hn4) (hm_nx hn4 e4) (by rw [hm_chkL, if_neg c15] at hI4; exact hI4) ls (lv_sub hl [0, 1, 2, 3] rfl)
  exact lp4 12 0 1 (by omega) (by decide) hT4.symm ls hl
set_option maxHeartbeats 4000000 in
theorem ca_X0_checksOf {p : Program} {l : Launch} {e : Env} {R : Room} {s : State} {m : MethodId} {args : Array Value} {below : List Frame} {meth : Method} {c : Code} {H : Heap} {locs : List Loc} {cells slots : Nat} {Q : State → Prop} {cc : ByteArray} {nL pc : Nat} {ls : Array Slot} {rest : List Value} {x1 : Int32} {h0 : Nat} (S : CallFix p m c cc nL s args lw_all RX0) (hR : 0 + 1 ≤ R.frames ∧ 8 + (4 + 11) + 0 ≤ R.locals) (hrv : ∃ cell : Cell, H[h0]? = some cell ∧ cell.vm.isStatics = false ∧ s.vm.findClass RX0 = some cell.cls) (hsize : ls.size = nL) (hW : (rest.map fun v => v.category).sum ≤ 8) (hdg : decode cc pc = .ok (.invokevirtual 41, 3)) (hf : cells ≤ R.cells ∧ slots ≤ R.slots) (kk : W p l e R s m args below meth c H locs cells slots Q (F0 m (pc + 3) ls (.int (hm_chk x1) :: rest))) : W p l e R s m args below meth c H locs cells slots Q (F0 m pc ls (.int x1 :: .ref h0 :: rest)) :=
  hm_call (As := [.int x1]) S (mt_X0_checksOf l h0 x1) (cwV 1 S.2.2.2.2 (lw_V q52 q54 qs3 q18 q55) rfl rfl rfl (by decide +kernel) hR) (hm_preR hrv) rfl hsize rfl hW hdg hf kk
set_option maxHeartbeats 4000000 in
set_option maxRecDepth 100000 in
theorem mt_X0_spread (l : Launch) (h0 : Nat) (x1 : Int32) : Met l yX0_spread (ws_ yX0_spread cX0_spread 5 (some .int)) ({ frames := 0, cells := 0, slots := 0, locals := 0 }) (va_Pc [.ref h0, .int x1] (hm_rv RX0 h0)) (QcRead (hm_spr x1)) 0 0 (fun _ => False) := by
  refine Met.ofW (cc := cX0_spread) (maxL := 5) (ret := (some .int)) (by decide) rfl ?_
  intro p e s m args below meth c s₁ B hml hv
  obtain ⟨rfl, hrv⟩ := hv
  have hx := B.exec
  have hb := B.bytes
  have hr := B.returns
  have hts := atoms_spec (ws := (ws_ yX0_spread cX0_spread 5 (some .int))) B.pre
  have hts : ∀ w ∈ lw_all, w.before _ s = true := fun w h => hts w (List.mem_cons_of_mem _ h)
  have hown : s.vm.findClass RX0 = some m.cls := findClass_of_methodNamed B.named
  have hlocks := B.notSynchronized
  have S : CallFix p m c cX0_spread 5 s _ lw_all RX0 := ⟨hx, hb, hml, hown, hts⟩
  have hl := lv_entry ([.ref h0, .int x1]) (n := 5) (Nat.le_of_ble_eq_true rfl)
  rw [lg_entry_eq]
  generalize (lg_sl ([.ref h0, .int x1]) ++ List.replicate (5 - (lg_sl ([.ref h0, .int x1])).length) Slot.unset).toArray = ls at hl ⊢
  have hl : lv_has ls 5 [(0, .ref h0), (1, .int x1)] := hl
  refine lv_iconst (v := 0) hx hb dX0_spread_0 (by decide) ?_
  refine lv_istore_n (lv' := [(2, .int 0), (0, .ref h0), (1, .int x1)]) hx hb dX0_spread_1 rfl hl (by decide) rfl (fun ls hl => ?_)
  refine lv_iconst (v := 0) hx hb dX0_spread_2 (by decide) ?_
  refine lv_istore_n (lv' := [(3, .int 0), (2, .int 0), (0, .ref h0), (1, .int x1)]) hx hb dX0_spread_3 rfl hl (by decide) rfl (fun ls hl => ?_)
  refine lv_iconst (v := 3) hx hb dX0_spread_4 (by decide) ?_
  refine lv_istore (lv' := [(4, .int 3), (3, .int 0), (2, .int 0), (0, .ref h0), (1, .int x1)]) hx hb dX0_spread_5 hl (by decide) rfl (fun ls hl => ?_)
  obtain ⟨T7, hT7⟩ : ∃ T, T = hm_sprL x1 10 0 0 3 := ⟨_, rfl⟩
  have lp7 : ∀ (n7 : Nat) (x2_7 x3_7 x4_7 : Int32), n7 ≤ 13 → x4_7 = nI (13 - n7) → hm_sprL x1 n7 x2_7 x3_7 x4_7 = T7 → ∀ ls : Array Slot, lv_has ls 5 [(4, .int x4_7), (3, .int x3_7), (2, .int x2_7), (0, .ref h0), (1, .int x1)] → W p l e (headSpec (ws_ yX0_spread cX0_spread 5 (some .int)) ({ frames := 0, cells := 0, slots := 0, locals := 0 })).room s m ([.ref h0, .int x1] : List Value).toArray below meth c s.heap [] 0 0 (MQ below (QcRead (hm_spr x1)) ([.ref h0, .int x1] : List Value).toArray s 0 0 (fun _ => False)) (F0 m 7 ls []) := by
    intro n7
    induction n7 with
    | zero =>
      intro x2_7 x3_7 x4_7 hn7 e7 hI7 ls hl
      refine lv_iload hx hb dX0_spread_7 (lv_at hl 0 rfl) ?_
      refine lv_bipush (v := 13) hx hb dX0_spread_9 (by decide) ?_
      refine lv_icmp_ge (tgt := 47) hx hb dX0_spread_11 (by decide) (fun c11 => ?_) (fun c11 => ?_)
      · obtain rfl : x2_7 = hm_sprL x1 10 0 0 3 := (show x2_7 = T7 from hI7).trans hT7
        refine lv_iload_n hx hb dX0_spread_47 rfl (lv_at hl 2 rfl) ?_
        exact hm_iret hx hb hr hlocks (by rw [hm_spr]) dX0_spread_48
      · exact absurd (hm_ge0 (N := 13) rfl e7) c11
    | succ n7 ih7 =>
      intro x2_7 x3_7 x4_7 hn7 e7 hI7 ls hl
      refine lv_iload hx hb dX0_spread_7 (lv_at hl 0 rfl) ?_
      refine lv_bipush (v := 13) hx hb dX0_spread_9 (by decide) ?_
      refine lv_icmp_ge (tgt := 47) hx hb dX0_spread_11 (by decide) (fun c11 => ?_) (fun c11 => ?_)
      · exact absurd c11 (hm_geS (N := 13) rfl (by decide) hn7 e7)
      · refine lv_iload hx hb dX0_spread_14 (lv_at hl 0 rfl) ?_
        refine lv_iload hx hb dX0_spread_16 (lv_at hl 0 rfl) ?_
        refine lv_iconst (v := 1) hx hb dX0_spread_18 (by decide) ?_
        refine lv_isub hx hb dX0_spread_19 ?_
        refine lv_iand hx hb dX0_spread_20 ?_
        refine lv_if_ne (tgt := 27) hx hb dX0_spread_21 (by decide) (fun c21 => ?_) (fun c21 => ?_)
        · refine lv_iload_n hx hb dX0_spread_27 rfl (lv_at hl 2 rfl) ?_
          refine lv_iload_n hx hb dX0_spread_28 rfl (lv_at hl 4 rfl) ?_
          refine lv_iload_n hx hb dX0_spread_29 rfl (lv_at hl 1 rfl) ?_
          refine lv_ishr hx hb dX0_spread_30 ?_
          refine lv_iconst (v := 1) hx hb dX0_spread_31 (by decide) ?_
          refine lv_iand hx hb dX0_spread_32 ?_
          refine lv_iload hx hb dX0_spread_33 (lv_at hl 0 rfl) ?_
          refine lv_ishl hx hb dX0_spread_35 ?_
          refine lv_ior hx hb dX0_spread_36 ?_
          refine lv_istore_n (lv' := [(2, .int (x2_7 ||| (((x1 >>> (x3_7 &&& 31)) &&& 1) <<< (x4_7 &&& 31)))), (4, .int x4_7), (3, .int x3_7), (0, .ref h0), (1, .int x1)]) hx hb dX0_spread_37 rfl hl (by decide) rfl (fun ls hl => ?_)
          refine lv_iinc (v := (x3_7 + 1)) (lv' := [(3, .int (x3_7 + 1)), (2, .int (x2_7 ||| (((x1 >>> (x3_7 &&& 31)) &&& 1) <<< (x4_7 &&& 31)))), (4, .int x4_7), (0, .ref h0), (1, .int x1)]) hx hb dX0_spread_38 hl (k := 2) rfl rfl (by decide) rfl (fun ls hl => ?_)
          refine lv_iinc (v := (x4_7 + 1)) (lv' := [(4, .int (x4_7 + 1)), (3, .int (x3_7 + 1)), (2, .int (x2_7 ||| (((x1 >>> (x3_7 &&& 31)) &&& 1) <<< (x4_7 &&& 31)))), (0, .ref h0), (1, .int x1)]) hx hb dX0_spread_41 hl (k := 2) rfl rfl (by decide) rfl (fun ls hl => ?_)
          refine lv_goto (tgt := 7) hx hb dX0_spread_44 (by decide) ?_
          exact ih7 (x2_7 ||| (((x1 >>> (x3_7 &&& 31)) &&& 1) <<< (x4_7 &&& 31))) (x3_7 + 1) (x4_7 + 1) (Nat.le_of_succ_le hn7) (hm_nx hn7 e7) (by rw [hm_sprL, if_neg c21] at hI7; exact hI7) ls (lv_sub hl [0, 1, 2, 3, 4] rfl)
        · refine lv_goto (tgt := 41) hx hb dX0_spread_24 (by decide) ?_
          refine lv_iinc (v := (x4_7 + 1)) (lv' := [(4, .int (x4_7 + 1)), (3, .int x3_7), (2, .int x2_7), (0, .ref h0), (1, .int x1)]) hx hb dX0_spread_41 hl (k := 0) rfl rfl (by decide) rfl (fun ls hl => ?_)
          refine lv_goto (tgt := 7) hx hb dX0_spread_44 (by decide) ?_
          exact ih7 x2_7 x3_7 (x4_7 + 1) (Nat.le_of_succ_le hn7) (hm_nx hn7 e7) (by rw [hm_sprL, if_pos c21] at hI7; exact hI7) ls (lv_sub hl [0, 1, 2, 3, 4] rfl)
  exact lp7 10 0 0 3 (by omega) (by decide) hT7.symm ls hl
set_option maxHeartbeats 4000000 in
theorem ca_X0_spread {p : Program} {l : Launch} {e : Env} {R : Room} {s : State} {m : MethodId} {args : Array Value} {below : List Frame} {meth : Method} {c : Code} {H : Heap} {locs : List Loc} {cells slots : Nat} {Q : State → Prop} {cc : ByteArray} {nL pc : Nat} {ls : Array Slot} {rest : List Value} {x1 : Int32} {h0 : Nat} (S : CallFix p m c cc nL s args lw_all RX0) (hR : 0 + 1 ≤ R.frames ∧ 8 + (5 + 11) + 0 ≤ R.locals) (hrv : ∃ cell : Cell, H[h0]? = some cell ∧ cell.vm.isStatics = false ∧ s.vm.findClass RX0 = some cell.cls) (hsize : ls.size = nL) (hW : (rest.map fun v => v.category).sum ≤ 8) (hdg : decode cc pc = .ok (.invokevirtual 56, 3)) (hf : cells ≤ R.cells ∧ slots ≤ R.slots) (kk : W p l e R s m args below meth c H locs cells slots Q (F0 m (pc + 3) ls (.int (hm_spr x1) :: rest))) : W p l e R s m args below meth c H locs cells slots Q (F0 m pc ls (.int x1 :: .ref h0 :: rest)) :=
  hm_call (As := [.int x1]) S (mt_X0_spread l h0 x1) (cwV 1 S.2.2.2.2 (lw_V q48 q50 qs2 q18 q51) rfl rfl rfl (by decide +kernel) hR) (hm_preR hrv) rfl hsize rfl hW hdg hf kk
set_option maxHeartbeats 4000000 in
set_option maxRecDepth 100000 in
theorem mt_X0_byteIn (l : Launch) (h0 : Nat) (x1 : Int32) : Met l yX0_byteIn (ws_ yX0_byteIn cX0_byteIn 5 (some .int)) ({ frames := 0, cells := 0, slots := 0, locals := 0 }) (va_Pc [.ref h0, .int x1] (hm_rv RX0 h0)) (QcRead (hm_byt x1)) 0 0 (fun _ => False) := by
  refine Met.ofW (cc := cX0_byteIn) (maxL := 5) (ret := (some .int)) (by decide) rfl ?_
  intro p e s m args below meth c s₁ B hml hv
  obtain ⟨rfl, hrv⟩ := hv
  have hx := B.exec
  have hb := B.bytes
  have hr := B.returns
  have hts := atoms_spec (ws := (ws_ yX0_byteIn cX0_byteIn 5 (some .int))) B.pre
  have hts : ∀ w ∈ lw_all, w.before _ s = true := fun w h => hts w (List.mem_cons_of_mem _ h)
  have hown : s.vm.findClass RX0 = some m.cls := findClass_of_methodNamed B.named
  have hlocks := B.notSynchronized
  have S : CallFix p m c cX0_byteIn 5 s _ lw_all RX0 := ⟨hx, hb, hml, hown, hts⟩
  have hl := lv_entry ([.ref h0, .int x1]) (n := 5) (Nat.le_of_ble_eq_true rfl)
  rw [lg_entry_eq]
  generalize (lg_sl ([.ref h0, .int x1]) ++ List.replicate (5 - (lg_sl ([.ref h0, .int x1])).length) Slot.unset).toArray = ls at hl ⊢
  have hl : lv_has ls 5 [(0, .ref h0), (1, .int x1)] := hl
  refine lv_iconst (v := 0) hx hb dX0_byteIn_0 (by decide) ?_
  refine lv_istore_n (lv' := [(2, .int 0), (0, .ref h0), (1, .int x1)]) hx hb dX0_byteIn_1 rfl hl (by decide) rfl (fun ls hl => ?_)
  refine lv_iconst (v := 0) hx hb dX0_byteIn_2 (by decide) ?_
  refine lv_istore_n (lv' := [(3, .int 0), (2, .int 0), (0, .ref h0), (1, .int x1)]) hx hb dX0_byteIn_3 rfl hl (by decide) rfl (fun ls hl => ?_)
  refine lv_iconst (v := 3) hx hb dX0_byteIn_4 (by decide) ?_
  refine lv_istore (lv' := [(4, .int 3), (3, .int 0), (2, .int 0), (0, .ref h0), (1, .int x1)]) hx hb dX0_byteIn_5 hl (by decide) rfl (fun ls hl => ?_)
  obtain ⟨T7, hT7⟩ : ∃ T, T = hm_bytL x1 10 0 0 3 := ⟨_, rfl⟩
  have lp7 : ∀ (n7 : Nat) (x2_7 x3_7 x4_7 : Int32), n7 ≤ 13 → x4_7 = nI (13 - n7) → hm_bytL x1 n7 x2_7 x3_7 x4_7 = T7 → ∀ ls : Array Slot, lv_has ls 5 [(4, .int x4_7), (3, .int x3_7), (2, .int x2_7), (0, .ref h0), (1, .int x1)] → W p l e (headSpec (ws_ yX0_byteIn cX0_byteIn 5 (some .int)) ({ frames := 0, cells := 0, slots := 0, locals := 0 })).room s m ([.ref h0, .int x1] : List Value).toArray below meth c s.heap [] 0 0 (MQ below (QcRead (hm_byt x1)) ([.ref h0, .int x1] : List Value).toArray s 0 0 (fun _ => False)) (F0 m 7 ls []) := by
    intro n7
    induction n7 with
    | zero =>
      intro x2_7 x3_7 x4_7 hn7 e7 hI7 ls hl
      refine lv_iload hx hb dX0_byteIn_7 (lv_at hl 0 rfl) ?_
      refine lv_bipush (v := 13) hx hb dX0_byteIn_9 (by decide) ?_
      refine lv_icmp_ge (tgt := 47) hx hb dX0_byteIn_11 (by decide) (fun c11 => ?_) (fun c11 => ?_)
      · obtain rfl : x2_7 = hm_bytL x1 10 0 0 3 := (show x2_7 = T7 from hI7).trans hT7
        refine lv_iload_n hx hb dX0_byteIn_47 rfl (lv_at hl 2 rfl) ?_
        exact hm_iret hx hb hr hlocks (by rw [hm_byt]) dX0_byteIn_48
      · exact absurd (hm_ge0 (N := 13) rfl e7) c11
    | succ n7 ih7 =>
      intro x2_7 x3_7 x4_7 hn7 e7 hI7 ls hl
      refine lv_iload hx hb dX0_byteIn_7 (lv_at hl 0 rfl) ?_
      refine lv_bipush (v := 13) hx hb dX0_byteIn_9 (by decide) ?_
      refine lv_icmp_ge (tgt := 47) hx hb dX0_byteIn_11 (by decide) (fun c11 => ?_) (fun c11 => ?_)
      · exact absurd c11 (hm_geS (N := 13) rfl (by decide) hn7 e7)
      · refine lv_iload hx hb dX0_byteIn_14 (lv_at hl 0 rfl) ?_
        refine lv_iload hx hb dX0_byteIn_16 (lv_at hl 0 rfl) ?_
        refine lv_iconst (v := 1) hx hb dX0_byteIn_18 (by decide) ?_
        refine lv_isub hx hb dX0_byteIn_19 ?_
        refine lv_iand hx hb dX0_byteIn_20 ?_
        refine lv_if_ne (tgt := 27) hx hb dX0_byteIn_21 (by decide) (fun c21 => ?_) (fun c21 => ?_)
        · refine lv_iload_n hx hb dX0_byteIn_27 rfl (lv_at hl 2 rfl) ?_
          refine lv_iload_n hx hb dX0_byteIn_28 rfl (lv_at hl 4 rfl) ?_
          refine lv_iload hx hb dX0_byteIn_29 (lv_at hl 0 rfl) ?_
          refine lv_ishr hx hb dX0_byteIn_31 ?_
          refine lv_iconst (v := 1) hx hb dX0_byteIn_32 (by decide) ?_
          refine lv_iand hx hb dX0_byteIn_33 ?_
          refine lv_iload_n hx hb dX0_byteIn_34 rfl (lv_at hl 1 rfl) ?_
          refine lv_ishl hx hb dX0_byteIn_35 ?_
          refine lv_ior hx hb dX0_byteIn_36 ?_
          refine lv_istore_n (lv' := [(2, .int (x2_7 ||| (((x1 >>> (x4_7 &&& 31)) &&& 1) <<< (x3_7 &&& 31)))), (4, .int x4_7), (3, .int x3_7), (0, .ref h0), (1, .int x1)]) hx hb dX0_byteIn_37 rfl hl (by decide) rfl (fun ls hl => ?_)
          refine lv_iinc (v := (x3_7 + 1)) (lv' := [(3, .int (x3_7 + 1)), (2, .int (x2_7 ||| (((x1 >>> (x4_7 &&& 31)) &&& 1) <<< (x3_7 &&& 31)))), (4, .int x4_7), (0, .ref h0), (1, .int x1)]) hx hb dX0_byteIn_38 hl (k := 2) rfl rfl (by decide) rfl (fun ls hl => ?_)
          refine lv_iinc (v := (x4_7 + 1)) (lv' := [(4, .int (x4_7 + 1)), (3, .int (x3_7 + 1)), (2, .int (x2_7 ||| (((x1 >>> (x4_7 &&& 31)) &&& 1) <<< (x3_7 &&& 31)))), (0, .ref h0), (1, .int x1)]) hx hb dX0_byteIn_41 hl (k := 2) rfl rfl (by decide) rfl (fun ls hl => ?_)
          refine lv_goto (tgt := 7) hx hb dX0_byteIn_44 (by decide) ?_
          exact ih7 (x2_7 ||| (((x1 >>> (x4_7 &&& 31)) &&& 1) <<< (x3_7 &&& 31))) (x3_7 + 1) (x4_7 + 1) (Nat.le_of_succ_le hn7) (hm_nx hn7 e7) (by rw [hm_bytL, if_neg c21] at hI7; exact hI7) ls (lv_sub hl [0, 1, 2, 3, 4] rfl)
        · refine lv_goto (tgt := 41) hx hb dX0_byteIn_24 (by decide) ?_
          refine lv_iinc (v := (x4_7 + 1)) (lv' := [(4, .int (x4_7 + 1)), (3, .int x3_7), (2, .int x2_7), (0, .ref h0), (1, .int x1)]) hx hb dX0_byteIn_41 hl (k := 0) rfl rfl (by decide) rfl (fun ls hl => ?_)
          refine lv_goto (tgt := 7) hx hb dX0_byteIn_44 (by decide) ?_
          exact ih7 x2_7 x3_7 (x4_7 + 1) (Nat.le_of_succ_le hn7) (hm_nx hn7 e7) (by rw [hm_bytL, if_pos c21] at hI7; exact hI7) ls (lv_sub hl [0, 1, 2, 3, 4] rfl)
  exact lp7 10 0 0 3 (by omega) (by decide) hT7.symm ls hl
set_option maxHeartbeats 4000000 in
theorem ca_X0_byteIn {p : Program} {l : Launch} {e : Env} {R : Room} {s : State} {m : MethodId} {args : Array Value} {below : List Frame} {meth : Method} {c : Code} {H : Heap} {locs : List Loc} {cells slots : Nat} {Q : State → Prop} {cc : ByteArray} {nL pc : Nat} {ls : Array Slot} {rest : List Value} {x1 : Int32} {h0 : Nat} (S : CallFix p m c cc nL s args lw_all RX0) (hR : 0 + 1 ≤ R.frames ∧ 8 + (5 + 11) + 0 ≤ R.locals) (hrv : ∃ cell : Cell, H[h0]? = some cell ∧ cell.vm.isStatics = false ∧ s.vm.findClass RX0 = some cell.cls) (hsize : ls.size = nL) (hW : (rest.map fun v => v.category).sum ≤ 8) (hdg : decode cc pc = .ok (.invokevirtual 28, 3)) (hf : cells ≤ R.cells ∧ slots ≤ R.slots) (kk : W p l e R s m args below meth c H locs cells slots Q (F0 m (pc + 3) ls (.int (hm_byt x1) :: rest))) : W p l e R s m args below meth c H locs cells slots Q (F0 m pc ls (.int x1 :: .ref h0 :: rest)) :=
  hm_call (As := [.int x1]) S (mt_X0_byteIn l h0 x1) (cwV 1 S.2.2.2.2 (lw_V q80 q82 qs8 q18 q83) rfl rfl rfl (by decide +kernel) hR) (hm_preR hrv) rfl hsize rfl hW hdg hf kk
set_option maxHeartbeats 4000000 in
set_option maxRecDepth 100000 in
theorem mt_X0_encoded (l : Launch) (h0 : Nat) (x1 : Int32) : Met l yX0_encoded (ws_ yX0_encoded cX0_encoded 5 (some .int)) ({ frames := 2, cells := 0, slots := 0, locals := 45 }) (va_Pc [.ref h0, .int x1] (hm_rv RX0 h0)) (QcRead (hm_enc x1)) 0 0 (fun _ => False) := by
  refine Met.ofW (cc := cX0_encoded) (maxL := 5) (ret := (some .int)) (by decide) rfl ?_
  intro p e s m args below meth c s₁ B hml hv
  obtain ⟨rfl, hrv⟩ := hv
  have hx := B.exec
  have hb := B.bytes
  have hr := B.returns
  have hts := atoms_spec (ws := (ws_ yX0_encoded cX0_encoded 5 (some .int))) B.pre
  have hts : ∀ w ∈ lw_all, w.before _ s = true := fun w h => hts w (List.mem_cons_of_mem _ h)
  have hown : s.vm.findClass RX0 = some m.cls := findClass_of_methodNamed B.named
  have hlocks := B.notSynchronized
  have S : CallFix p m c cX0_encoded 5 s _ lw_all RX0 := ⟨hx, hb, hml, hown, hts⟩
  have hl := lv_entry ([.ref h0, .int x1]) (n := 5) (Nat.le_of_ble_eq_true rfl)
  rw [lg_entry_eq]
  generalize (lg_sl ([.ref h0, .int x1]) ++ List.replicate (5 - (lg_sl ([.ref h0, .int x1])).length) Slot.unset).toArray = ls at hl ⊢
  have hl : lv_has ls 5 [(0, .ref h0), (1, .int x1)] := hl
  refine lv_aload_n hx hb dX0_encoded_0 rfl (lv_at hl 0 rfl) ?_
  refine lv_iload_n hx hb dX0_encoded_1 rfl (lv_at hl 1 rfl) ?_
  refine ca_X0_spread S ⟨Nat.le_of_ble_eq_true rfl, Nat.le_of_ble_eq_true rfl⟩ hrv hl.1 (Nat.le_of_ble_eq_true rfl) dX0_encoded_2 ⟨Nat.zero_le _, Nat.zero_le _⟩ ?_
  refine lv_istore_n (lv' := [(2, .int (hm_spr x1)), (0, .ref h0), (1, .int x1)]) hx hb dX0_encoded_5 rfl hl (by decide) rfl (fun ls hl => ?_)
  refine lv_aload_n hx hb dX0_encoded_6 rfl (lv_at hl 1 rfl) ?_
  refine lv_iload_n hx hb dX0_encoded_7 rfl (lv_at hl 0 rfl) ?_
  refine ca_X0_checksOf S ⟨Nat.le_of_ble_eq_true rfl, Nat.le_of_ble_eq_true rfl⟩ hrv hl.1 (Nat.le_of_ble_eq_true rfl) dX0_encoded_8 ⟨Nat.zero_le _, Nat.zero_le _⟩ ?_
  refine lv_istore_n (lv' := [(3, .int (hm_chk (hm_spr x1))), (2, .int (hm_spr x1)), (0, .ref h0), (1, .int x1)]) hx hb dX0_encoded_11 rfl hl (by decide) rfl (fun ls hl => ?_)
  refine lv_iconst (v := 1) hx hb dX0_encoded_12 (by decide) ?_
  refine lv_istore (lv' := [(4, .int 1), (3, .int (hm_chk (hm_spr x1))), (2, .int (hm_spr x1)), (0, .ref h0), (1, .int x1)]) hx hb dX0_encoded_13 hl (by decide) rfl (fun ls hl => ?_)
  obtain ⟨T15, hT15⟩ : ∃ T, T = hm_encL (hm_chk (hm_spr x1)) 4 (hm_spr x1) 1 := ⟨_, rfl⟩
  have lp15 : ∀ (n15 : Nat) (x2_15 x4_15 : Int32), n15 ≤ 4 → x4_15 = nI (2 ^ (4 - n15)) → hm_encL (hm_chk (hm_spr x1)) n15 x2_15 x4_15 = T15 → ∀ ls : Array Slot, lv_has ls 5 [(4, .int x4_15), (3, .int (hm_chk (hm_spr x1))), (2, .int x2_15), (0, .ref h0), (1, .int x1)] → W p l e (headSpec (ws_ yX0_encoded cX0_encoded 5 (some .int)) ({ frames := 2, cells := 0, slots := 0, locals := 45 })).room s m ([.ref h0, .int x1] : List Value).toArray below meth c s.heap [] 0 0 (MQ below (QcRead (hm_enc x1)) ([.ref h0, .int x1] : List Value).toArray s 0 0 (fun _ => False)) (F0 m 15 ls []) := by
    intro n15
    induction n15 with
    | zero =>
      intro x2_15 x4_15 hn15 e15 hI15 ls hl
      refine lv_iload hx hb dX0_encoded_15 (lv_at hl 0 rfl) ?_
      refine lv_bipush (v := 8) hx hb dX0_encoded_17 (by decide) ?_
      refine lv_icmp_gt (tgt := 45) hx hb dX0_encoded_19 (by decide) (fun c19 => ?_) (fun c19 => ?_)
      · obtain rfl : x2_15 = hm_encL (hm_chk (hm_spr x1)) 4 (hm_spr x1) 1 := (show x2_15 = T15 from hI15).trans hT15
        refine lv_aload_n hx hb dX0_encoded_45 rfl (lv_at hl 3 rfl) ?_
        refine lv_iload_n hx hb dX0_encoded_46 rfl (lv_at hl 2 rfl) ?_
        refine ca_X0_isOdd S ⟨Nat.le_of_ble_eq_true rfl, Nat.le_of_ble_eq_true rfl⟩ hrv hl.1 (Nat.le_of_ble_eq_true rfl) dX0_encoded_47 ⟨Nat.zero_le _, Nat.zero_le _⟩ ?_
        refine lv_if_eq (tgt := 59) hx hb dX0_encoded_50 (by decide) (fun c50 => ?_) (fun c50 => ?_)
        · refine lv_iload_n hx hb dX0_encoded_59 rfl (lv_at hl 2 rfl) ?_
          exact hm_iret hx hb hr hlocks (by rw [hm_enc, hm_encW, if_pos c50]) dX0_encoded_60
        · refine lv_iload_n hx hb dX0_encoded_53 rfl (lv_at hl 2 rfl) ?_
          refine lv_iconst (v := 1) hx hb dX0_encoded_54 (by decide) ?_
          refine lv_ior hx hb dX0_encoded_55 ?_
          refine lv_goto (tgt := 60) hx hb dX0_encoded_56 (by decide) ?_
          exact hm_iret hx hb hr hlocks (by rw [hm_enc, hm_encW, if_neg c50]) dX0_encoded_60
      · exact absurd (hm_e0 e15) c19
    | succ n15 ih15 =>
      intro x2_15 x4_15 hn15 e15 hI15 ls hl
      refine lv_iload hx hb dX0_encoded_15 (lv_at hl 0 rfl) ?_
      refine lv_bipush (v := 8) hx hb dX0_encoded_17 (by decide) ?_
      refine lv_icmp_gt (tgt := 45) hx hb dX0_encoded_19 (by decide) (fun c19 => ?_) (fun c19 => ?_)
      · exact absurd c19 (hm_eS hn15 e15)
      · refine lv_iload_n hx hb dX0_encoded_22 rfl (lv_at hl 1 rfl) ?_
        refine lv_iload hx hb dX0_encoded_23 (lv_at hl 0 rfl) ?_
        refine lv_iand hx hb dX0_encoded_25 ?_
        refine lv_if_eq (tgt := 36) hx hb dX0_encoded_26 (by decide) (fun c26 => ?_) (fun c26 => ?_)
        · refine lv_iload hx hb dX0_encoded_36 (lv_at hl 0 rfl) ?_
          refine lv_iconst (v := 2) hx hb dX0_encoded_38 (by decide) ?_
          refine lv_imul hx hb dX0_encoded_39 ?_
          refine lv_istore (lv' := [(4, .int (x4_15 * 2)), (3, .int (hm_chk (hm_spr x1))), (2, .int x2_15), (0, .ref h0), (1, .int x1)]) hx hb dX0_encoded_40 hl (by decide) rfl (fun ls hl => ?_)
          refine lv_goto (tgt := 15) hx hb dX0_encoded_42 (by decide) ?_
          exact ih15 x2_15 (x4_15 * 2) (Nat.le_of_succ_le hn15) (hm_eN hn15 e15) (by rw [hm_encL, if_pos c26] at hI15; exact hI15) ls (lv_sub hl [0, 1, 2, 3, 4] rfl)
        · refine lv_iload_n hx hb dX0_encoded_29 rfl (lv_at hl 2 rfl) ?_
          refine lv_iconst (v := 1) hx hb dX0_encoded_30 (by decide) ?_
          refine lv_iload hx hb dX0_encoded_31 (lv_at hl 0 rfl) ?_
          refine lv_ishl hx hb dX0_encoded_33 ?_
          refine lv_ior hx hb dX0_encoded_34 ?_
          refine lv_istore_n (lv' := [(2, .int (x2_15 ||| ((1 : Int32) <<< (x4_15 &&& 31)))), (4, .int x4_15), (3, .int (hm_chk (hm_spr x1))), (0, .ref h0), (1, .int x1)]) hx hb dX0_encoded_35 rfl hl (by decide) rfl (fun ls hl => ?_)
          refine lv_iload hx hb dX0_encoded_36 (lv_at hl 1 rfl) ?_
          refine lv_iconst (v := 2) hx hb dX0_encoded_38 (by decide) ?_
          refine lv_imul hx hb dX0_encoded_39 ?_
          refine lv_istore (lv' := [(4, .int (x4_15 * 2)), (2, .int (x2_15 ||| ((1 : Int32) <<< (x4_15 &&& 31)))), (3, .int (hm_chk (hm_spr x1))), (0, .ref h0), (1, .int x1)]) hx hb dX0_encoded_40 hl (by decide) rfl (fun ls hl => ?_)
          refine lv_goto (tgt := 15) hx hb dX0_encoded_42 (by decide) ?_
          exact ih15 (x2_15 ||| ((1 : Int32) <<< (x4_15 &&& 31))) (x4_15 * 2) (Nat.le_of_succ_le hn15) (hm_eN hn15 e15) (by rw [hm_encL, if_neg c26] at hI15; exact hI15) ls (lv_sub hl [0, 2, 1, 3, 4] rfl)
  exact lp15 4 (hm_spr x1) 1 (by omega) (by decide) hT15.symm ls hl
set_option maxHeartbeats 4000000 in
theorem ca_X0_encoded {p : Program} {l : Launch} {e : Env} {R : Room} {s : State} {m : MethodId} {args : Array Value} {below : List Frame} {meth : Method} {c : Code} {H : Heap} {locs : List Loc} {cells slots : Nat} {Q : State → Prop} {cc : ByteArray} {nL pc : Nat} {ls : Array Slot} {rest : List Value} {x1 : Int32} {h0 : Nat} (S : CallFix p m c cc nL s args lw_all RX0) (hR : 2 + 1 ≤ R.frames ∧ 8 + (5 + 11) + 45 ≤ R.locals) (hrv : ∃ cell : Cell, H[h0]? = some cell ∧ cell.vm.isStatics = false ∧ s.vm.findClass RX0 = some cell.cls) (hsize : ls.size = nL) (hW : (rest.map fun v => v.category).sum ≤ 8) (hdg : decode cc pc = .ok (.invokevirtual 17, 3)) (hf : cells ≤ R.cells ∧ slots ≤ R.slots) (kk : W p l e R s m args below meth c H locs cells slots Q (F0 m (pc + 3) ls (.int (hm_enc x1) :: rest))) : W p l e R s m args below meth c H locs cells slots Q (F0 m pc ls (.int x1 :: .ref h0 :: rest)) :=
  hm_call (As := [.int x1]) S (mt_X0_encoded l h0 x1) (cwV 1 S.2.2.2.2 (lw_V q44 q46 qs1 q18 q47) rfl rfl rfl (by decide +kernel) hR) (hm_preR hrv) rfl hsize rfl hW hdg hf kk
set_option maxHeartbeats 4000000 in
set_option maxRecDepth 100000 in
theorem mt_X0_wrongBit (l : Launch) (h0 : Nat) (x1 : Int32) : Met l yX0_wrongBit (ws_ yX0_wrongBit cX0_wrongBit 4 (some .int)) ({ frames := 2, cells := 0, slots := 0, locals := 45 }) (va_Pc [.ref h0, .int x1] (hm_rv RX0 h0)) (QcRead (hm_wrong x1)) 0 0 (fun _ => False) := by
  refine Met.ofW (cc := cX0_wrongBit) (maxL := 4) (ret := (some .int)) (by decide) rfl ?_
  intro p e s m args below meth c s₁ B hml hv
  obtain ⟨rfl, hrv⟩ := hv
  have hx := B.exec
  have hb := B.bytes
  have hr := B.returns
  have hts := atoms_spec (ws := (ws_ yX0_wrongBit cX0_wrongBit 4 (some .int))) B.pre
  have hts : ∀ w ∈ lw_all, w.before _ s = true := fun w h => hts w (List.mem_cons_of_mem _ h)
  have hown : s.vm.findClass RX0 = some m.cls := findClass_of_methodNamed B.named
  have hlocks := B.notSynchronized
  have S : CallFix p m c cX0_wrongBit 4 s _ lw_all RX0 := ⟨hx, hb, hml, hown, hts⟩
  have hl := lv_entry ([.ref h0, .int x1]) (n := 4) (Nat.le_of_ble_eq_true rfl)
  rw [lg_entry_eq]
  generalize (lg_sl ([.ref h0, .int x1]) ++ List.replicate (4 - (lg_sl ([.ref h0, .int x1])).length) Slot.unset).toArray = ls at hl ⊢
  have hl : lv_has ls 4 [(0, .ref h0), (1, .int x1)] := hl
  refine lv_aload_n hx hb dX0_wrongBit_0 rfl (lv_at hl 0 rfl) ?_
  refine lv_iload_n hx hb dX0_wrongBit_1 rfl (lv_at hl 1 rfl) ?_
  refine ca_X0_checksOf S ⟨Nat.le_of_ble_eq_true rfl, Nat.le_of_ble_eq_true rfl⟩ hrv hl.1 (Nat.le_of_ble_eq_true rfl) dX0_wrongBit_2 ⟨Nat.zero_le _, Nat.zero_le _⟩ ?_
  refine lv_istore_n (lv' := [(2, .int (hm_chk x1)), (0, .ref h0), (1, .int x1)]) hx hb dX0_wrongBit_5 rfl hl (by decide) rfl (fun ls hl => ?_)
  refine lv_aload_n hx hb dX0_wrongBit_6 rfl (lv_at hl 1 rfl) ?_
  refine lv_iload_n hx hb dX0_wrongBit_7 rfl (lv_at hl 2 rfl) ?_
  refine ca_X0_isOdd S ⟨Nat.le_of_ble_eq_true rfl, Nat.le_of_ble_eq_true rfl⟩ hrv hl.1 (Nat.le_of_ble_eq_true rfl) dX0_wrongBit_8 ⟨Nat.zero_le _, Nat.zero_le _⟩ ?_
  refine lv_istore_n (lv' := [(3, .int (hm_isOdd x1)), (2, .int (hm_chk x1)), (0, .ref h0), (1, .int x1)]) hx hb dX0_wrongBit_11 rfl hl (by decide) rfl (fun ls hl => ?_)
  refine lv_iload_n hx hb dX0_wrongBit_12 rfl (lv_at hl 0 rfl) ?_
  refine lv_if_ne (tgt := 28) hx hb dX0_wrongBit_13 (by decide) (fun c13 => ?_) (fun c13 => ?_)
  · refine lv_iload_n hx hb dX0_wrongBit_28 rfl (lv_at hl 1 rfl) ?_
    refine lv_bipush (v := 12) hx hb dX0_wrongBit_29 (by decide) ?_
    refine lv_icmp_gt (tgt := 38) hx hb dX0_wrongBit_31 (by decide) (fun c31 => ?_) (fun c31 => ?_)
    · refine lv_bipush (v := -2) hx hb dX0_wrongBit_38 (by decide) ?_
      exact hm_iret hx hb hr hlocks (by rw [hm_wrong, if_neg c13, if_pos c31]) dX0_wrongBit_40
    · refine lv_iload_n hx hb dX0_wrongBit_34 rfl (lv_at hl 1 rfl) ?_
      refine lv_goto (tgt := 40) hx hb dX0_wrongBit_35 (by decide) ?_
      exact hm_iret hx hb hr hlocks (by rw [hm_wrong, if_neg c13, if_neg c31]) dX0_wrongBit_40
  · refine lv_iload_n hx hb dX0_wrongBit_16 rfl (lv_at hl 1 rfl) ?_
    refine lv_if_ne (tgt := 25) hx hb dX0_wrongBit_17 (by decide) (fun c17 => ?_) (fun c17 => ?_)
    · refine lv_bipush (v := -2) hx hb dX0_wrongBit_25 (by decide) ?_
      exact hm_iret hx hb hr hlocks (by rw [hm_wrong, if_pos c13, if_neg c17]) dX0_wrongBit_27
    · refine lv_bipush (v := 13) hx hb dX0_wrongBit_20 (by decide) ?_
      refine lv_goto (tgt := 27) hx hb dX0_wrongBit_22 (by decide) ?_
      exact hm_iret hx hb hr hlocks (by rw [hm_wrong, if_pos c13, if_pos c17]) dX0_wrongBit_27
set_option maxHeartbeats 4000000 in
theorem ca_X0_wrongBit {p : Program} {l : Launch} {e : Env} {R : Room} {s : State} {m : MethodId} {args : Array Value} {below : List Frame} {meth : Method} {c : Code} {H : Heap} {locs : List Loc} {cells slots : Nat} {Q : State → Prop} {cc : ByteArray} {nL pc : Nat} {ls : Array Slot} {rest : List Value} {x1 : Int32} {h0 : Nat} (S : CallFix p m c cc nL s args lw_all RX0) (hR : 2 + 1 ≤ R.frames ∧ 8 + (4 + 11) + 45 ≤ R.locals) (hrv : ∃ cell : Cell, H[h0]? = some cell ∧ cell.vm.isStatics = false ∧ s.vm.findClass RX0 = some cell.cls) (hsize : ls.size = nL) (hW : (rest.map fun v => v.category).sum ≤ 8) (hdg : decode cc pc = .ok (.invokevirtual 21, 3)) (hf : cells ≤ R.cells ∧ slots ≤ R.slots) (kk : W p l e R s m args below meth c H locs cells slots Q (F0 m (pc + 3) ls (.int (hm_wrong x1) :: rest))) : W p l e R s m args below meth c H locs cells slots Q (F0 m pc ls (.int x1 :: .ref h0 :: rest)) :=
  hm_call (As := [.int x1]) S (mt_X0_wrongBit l h0 x1) (cwV 1 S.2.2.2.2 (lw_V q72 q74 qs6 q18 q75) rfl rfl rfl (by decide +kernel) hR) (hm_preR hrv) rfl hsize rfl hW hdg hf kk
set_option maxHeartbeats 4000000 in
set_option maxRecDepth 100000 in
theorem mt_X0_mended (l : Launch) (h0 : Nat) (x1 : Int32) (x2 : Int32) : Met l yX0_mended (ws_ yX0_mended cX0_mended 3 (some .int)) ({ frames := 0, cells := 0, slots := 0, locals := 0 }) (va_Pc [.ref h0, .int x1, .int x2] (hm_rv RX0 h0)) (QcRead (hm_mend x1 x2)) 0 0 (fun _ => False) := by
  refine Met.ofW (cc := cX0_mended) (maxL := 3) (ret := (some .int)) (by decide) rfl ?_
  intro p e s m args below meth c s₁ B hml hv
  obtain ⟨rfl, hrv⟩ := hv
  have hx := B.exec
  have hb := B.bytes
  have hr := B.returns
  have hts := atoms_spec (ws := (ws_ yX0_mended cX0_mended 3 (some .int))) B.pre
  have hts : ∀ w ∈ lw_all, w.before _ s = true := fun w h => hts w (List.mem_cons_of_mem _ h)
  have hown : s.vm.findClass RX0 = some m.cls := findClass_of_methodNamed B.named
  have hlocks := B.notSynchronized
  have S : CallFix p m c cX0_mended 3 s _ lw_all RX0 := ⟨hx, hb, hml, hown, hts⟩
  have hl := lv_entry ([.ref h0, .int x1, .int x2]) (n := 3) (Nat.le_of_ble_eq_true rfl)
  rw [lg_entry_eq]
  generalize (lg_sl ([.ref h0, .int x1, .int x2]) ++ List.replicate (3 - (lg_sl ([.ref h0, .int x1, .int x2])).length) Slot.unset).toArray = ls at hl ⊢
  have hl : lv_has ls 3 [(0, .ref h0), (1, .int x1), (2, .int x2)] := hl
  refine lv_iload_n hx hb dX0_mended_0 rfl (lv_at hl 2 rfl) ?_
  refine lv_bipush (v := 13) hx hb dX0_mended_1 (by decide) ?_
  refine lv_icmp_ne (tgt := 10) hx hb dX0_mended_3 (by decide) (fun c3 => ?_) (fun c3 => ?_)
  · refine lv_iload_n hx hb dX0_mended_10 rfl (lv_at hl 1 rfl) ?_
    refine lv_iconst (v := 1) hx hb dX0_mended_11 (by decide) ?_
    refine lv_iload_n hx hb dX0_mended_12 rfl (lv_at hl 2 rfl) ?_
    refine lv_ishl hx hb dX0_mended_13 ?_
    refine lv_ixor hx hb dX0_mended_14 ?_
    exact hm_iret hx hb hr hlocks (by rw [hm_mend, if_neg c3]) dX0_mended_15
  · refine lv_iload_n hx hb dX0_mended_6 rfl (lv_at hl 1 rfl) ?_
    refine lv_goto (tgt := 15) hx hb dX0_mended_7 (by decide) ?_
    exact hm_iret hx hb hr hlocks (by rw [hm_mend, if_pos c3]) dX0_mended_15
set_option maxHeartbeats 4000000 in
theorem ca_X0_mended {p : Program} {l : Launch} {e : Env} {R : Room} {s : State} {m : MethodId} {args : Array Value} {below : List Frame} {meth : Method} {c : Code} {H : Heap} {locs : List Loc} {cells slots : Nat} {Q : State → Prop} {cc : ByteArray} {nL pc : Nat} {ls : Array Slot} {rest : List Value} {x1 x2 : Int32} {h0 : Nat} (S : CallFix p m c cc nL s args lw_all RX0) (hR : 0 + 1 ≤ R.frames ∧ 8 + (3 + 11) + 0 ≤ R.locals) (hrv : ∃ cell : Cell, H[h0]? = some cell ∧ cell.vm.isStatics = false ∧ s.vm.findClass RX0 = some cell.cls) (hsize : ls.size = nL) (hW : (rest.map fun v => v.category).sum ≤ 8) (hdg : decode cc pc = .ok (.invokevirtual 24, 3)) (hf : cells ≤ R.cells ∧ slots ≤ R.slots) (kk : W p l e R s m args below meth c H locs cells slots Q (F0 m (pc + 3) ls (.int (hm_mend x1 x2) :: rest))) : W p l e R s m args below meth c H locs cells slots Q (F0 m pc ls (.int x2 :: .int x1 :: .ref h0 :: rest)) :=
  hm_call (As := [.int x1, .int x2]) S (mt_X0_mended l h0 x1 x2) (cwV 2 S.2.2.2.2 (lw_V q76 q78 qs7 q18 q79) rfl rfl rfl (by decide +kernel) hR) (hm_preR hrv) rfl hsize rfl hW hdg hf kk
set_option maxHeartbeats 4000000 in
set_option maxRecDepth 100000 in
theorem mt_X0_waysOfTwo (l : Launch) (h0 : Nat) (x1 : Int32) : Met l yX0_waysOfTwo (ws_ yX0_waysOfTwo cX0_waysOfTwo 5 (some .int)) ({ frames := 0, cells := 0, slots := 0, locals := 0 }) (va_Pc [.ref h0, .int x1] (hm_rv RX0 h0)) (QcRead (hm_w2 x1)) 0 0 (fun _ => False) := by
  refine Met.ofW (cc := cX0_waysOfTwo) (maxL := 5) (ret := (some .int)) (by decide) rfl ?_
  intro p e s m args below meth c s₁ B hml hv
  obtain ⟨rfl, hrv⟩ := hv
  have hx := B.exec
  have hb := B.bytes
  have hr := B.returns
  have hts := atoms_spec (ws := (ws_ yX0_waysOfTwo cX0_waysOfTwo 5 (some .int))) B.pre
  have hts : ∀ w ∈ lw_all, w.before _ s = true := fun w h => hts w (List.mem_cons_of_mem _ h)
  have hown : s.vm.findClass RX0 = some m.cls := findClass_of_methodNamed B.named
  have hlocks := B.notSynchronized
  have S : CallFix p m c cX0_waysOfTwo 5 s _ lw_all RX0 := ⟨hx, hb, hml, hown, hts⟩
  have hl := lv_entry ([.ref h0, .int x1]) (n := 5) (Nat.le_of_ble_eq_true rfl)
  rw [lg_entry_eq]
  generalize (lg_sl ([.ref h0, .int x1]) ++ List.replicate (5 - (lg_sl ([.ref h0, .int x1])).length) Slot.unset).toArray = ls at hl ⊢
  have hl : lv_has ls 5 [(0, .ref h0), (1, .int x1)] := hl
  refine lv_iconst (v := 0) hx hb dX0_waysOfTwo_0 (by decide) ?_
  refine lv_istore_n (lv' := [(2, .int 0), (0, .ref h0), (1, .int x1)]) hx hb dX0_waysOfTwo_1 rfl hl (by decide) rfl (fun ls hl => ?_)
  refine lv_iconst (v := 0) hx hb dX0_waysOfTwo_2 (by decide) ?_
  refine lv_istore_n (lv' := [(3, .int 0), (2, .int 0), (0, .ref h0), (1, .int x1)]) hx hb dX0_waysOfTwo_3 rfl hl (by decide) rfl (fun ls hl => ?_)
  obtain ⟨T4, hT4⟩ : ∃ T, T = hm_w2L x1 13 0 0 := ⟨_, rfl⟩
  have lp4 : ∀ (n4 : Nat) (x2_4 x3_4 : Int32), n4 ≤ 13 → x3_4 = nI (13 - n4) → hm_w2L x1 n4 x2_4 x3_4 = T4 → ∀ ls : Array Slot, lv_has ls 5 [(3, .int x3_4), (2, .int x2_4), (0, .ref h0), (1, .int x1)] → W p l e (headSpec (ws_ yX0_waysOfTwo cX0_waysOfTwo 5 (some .int)) ({ frames := 0, cells := 0, slots := 0, locals := 0 })).room s m ([.ref h0, .int x1] : List Value).toArray below meth c s.heap [] 0 0 (MQ below (QcRead (hm_w2 x1)) ([.ref h0, .int x1] : List Value).toArray s 0 0 (fun _ => False)) (F0 m 4 ls []) := by
    intro n4
    induction n4 with
    | zero =>
      intro x2_4 x3_4 hn4 e4 hI4 ls hl
      refine lv_iload_n hx hb dX0_waysOfTwo_4 rfl (lv_at hl 0 rfl) ?_
      refine lv_bipush (v := 13) hx hb dX0_waysOfTwo_5 (by decide) ?_
      refine lv_icmp_ge (tgt := 37) hx hb dX0_waysOfTwo_7 (by decide) (fun c7 => ?_) (fun c7 => ?_)
      · obtain rfl : x2_4 = hm_w2L x1 13 0 0 := (show x2_4 = T4 from hI4).trans hT4
        refine lv_iload_n hx hb dX0_waysOfTwo_37 rfl (lv_at hl 1 rfl) ?_
        exact hm_iret hx hb hr hlocks (by rw [hm_w2]) dX0_waysOfTwo_38
      · exact absurd (hm_ge0 (N := 13) rfl e4) c7
    | succ n4 ih4 =>
      intro x2_4 x3_4 hn4 e4 hI4 ls hl
      refine lv_iload_n hx hb dX0_waysOfTwo_4 rfl (lv_at hl 0 rfl) ?_
      refine lv_bipush (v := 13) hx hb dX0_waysOfTwo_5 (by decide) ?_
      refine lv_icmp_ge (tgt := 37) hx hb dX0_waysOfTwo_7 (by decide) (fun c7 => ?_) (fun c7 => ?_)
      · exact absurd c7 (hm_geS (N := 13) rfl (by decide) hn4 e4)
      · refine lv_iload_n hx hb dX0_waysOfTwo_10 rfl (lv_at hl 0 rfl) ?_
        refine lv_iload_n hx hb dX0_waysOfTwo_11 rfl (lv_at hl 3 rfl) ?_
        refine lv_ixor hx hb dX0_waysOfTwo_12 ?_
        refine lv_istore (lv' := [(4, .int (x3_4 ^^^ x1)), (3, .int x3_4), (2, .int x2_4), (0, .ref h0), (1, .int x1)]) hx hb dX0_waysOfTwo_13 hl (by decide) rfl (fun ls hl => ?_)
        refine lv_iload hx hb dX0_waysOfTwo_15 (lv_at hl 0 rfl) ?_
        refine lv_iload_n hx hb dX0_waysOfTwo_17 rfl (lv_at hl 1 rfl) ?_
        refine lv_icmp_le (tgt := 31) hx hb dX0_waysOfTwo_18 (by decide) (fun c18 => ?_) (fun c18 => ?_)
        · refine lv_iinc (v := (x3_4 + 1)) (lv' := [(3, .int (x3_4 + 1)), (4, .int (x3_4 ^^^ x1)), (2, .int x2_4), (0, .ref h0), (1, .int x1)]) hx hb dX0_waysOfTwo_31 hl (k := 1) rfl rfl (by decide) rfl (fun ls hl => ?_)
          refine lv_goto (tgt := 4) hx hb dX0_waysOfTwo_34 (by decide) ?_
          exact ih4 x2_4 (x3_4 + 1) (Nat.le_of_succ_le hn4) (hm_nx hn4 e4) (by rw [hm_w2L, if_pos c18] at hI4; exact hI4) ls (lv_sub hl [0, 2, 3, 4] rfl)
        · refine lv_iload hx hb dX0_waysOfTwo_21 (lv_at hl 0 rfl) ?_
          refine lv_bipush (v := 13) hx hb dX0_waysOfTwo_23 (by decide) ?_
          refine lv_icmp_ge (tgt := 31) hx hb dX0_waysOfTwo_25 (by decide) (fun c25 => ?_) (fun c25 => ?_)
          · refine lv_iinc (v := (x3_4 + 1)) (lv' := [(3, .int (x3_4 + 1)), (4, .int (x3_4 ^^^ x1)), (2, .int x2_4), (0, .ref h0), (1, .int x1)]) hx hb dX0_waysOfTwo_31 hl (k := 1) rfl rfl (by decide) rfl (fun ls hl => ?_)
            refine lv_goto (tgt := 4) hx hb dX0_waysOfTwo_34 (by decide) ?_
            exact ih4 x2_4 (x3_4 + 1) (Nat.le_of_succ_le hn4) (hm_nx hn4 e4) (by rw [hm_w2L, if_neg c18, if_pos c25] at hI4; exact hI4) ls (lv_sub hl [0, 2, 3, 4] rfl)
          · refine lv_iinc (v := (x2_4 + 1)) (lv' := [(2, .int (x2_4 + 1)), (4, .int (x3_4 ^^^ x1)), (3, .int x3_4), (0, .ref h0), (1, .int x1)]) hx hb dX0_waysOfTwo_28 hl (k := 2) rfl rfl (by decide) rfl (fun ls hl => ?_)
            refine lv_iinc (v := (x3_4 + 1)) (lv' := [(3, .int (x3_4 + 1)), (2, .int (x2_4 + 1)), (4, .int (x3_4 ^^^ x1)), (0, .ref h0), (1, .int x1)]) hx hb dX0_waysOfTwo_31 hl (k := 2) rfl rfl (by decide) rfl (fun ls hl => ?_)
            refine lv_goto (tgt := 4) hx hb dX0_waysOfTwo_34 (by decide) ?_
            exact ih4 (x2_4 + 1) (x3_4 + 1) (Nat.le_of_succ_le hn4) (hm_nx hn4 e4) (by rw [hm_w2L, if_neg c18, if_neg c25] at hI4; exact hI4) ls (lv_sub hl [0, 1, 3, 4] rfl)
  exact lp4 13 0 0 (by omega) (by decide) hT4.symm ls hl
set_option maxHeartbeats 4000000 in
theorem ca_X0_waysOfTwo {p : Program} {l : Launch} {e : Env} {R : Room} {s : State} {m : MethodId} {args : Array Value} {below : List Frame} {meth : Method} {c : Code} {H : Heap} {locs : List Loc} {cells slots : Nat} {Q : State → Prop} {cc : ByteArray} {nL pc : Nat} {ls : Array Slot} {rest : List Value} {x1 : Int32} {h0 : Nat} (S : CallFix p m c cc nL s args lw_all RX0) (hR : 0 + 1 ≤ R.frames ∧ 8 + (5 + 11) + 0 ≤ R.locals) (hrv : ∃ cell : Cell, H[h0]? = some cell ∧ cell.vm.isStatics = false ∧ s.vm.findClass RX0 = some cell.cls) (hsize : ls.size = nL) (hW : (rest.map fun v => v.category).sum ≤ 8) (hdg : decode cc pc = .ok (.invokevirtual 50, 3)) (hf : cells ≤ R.cells ∧ slots ≤ R.slots) (kk : W p l e R s m args below meth c H locs cells slots Q (F0 m (pc + 3) ls (.int (hm_w2 x1) :: rest))) : W p l e R s m args below meth c H locs cells slots Q (F0 m pc ls (.int x1 :: .ref h0 :: rest)) :=
  hm_call (As := [.int x1]) S (mt_X0_waysOfTwo l h0 x1) (cwV 1 S.2.2.2.2 (lw_V q121 q123 qs10 q18 q124) rfl rfl rfl (by decide +kernel) hR) (hm_preR hrv) rfl hsize rfl hW hdg hf kk
set_option maxHeartbeats 4000000 in
set_option maxRecDepth 100000 in
theorem mt_X0_waysOfThree (l : Launch) (h0 : Nat) (x1 : Int32) : Met l yX0_waysOfThree (ws_ yX0_waysOfThree cX0_waysOfThree 6 (some .int)) ({ frames := 0, cells := 0, slots := 0, locals := 0 }) (va_Pc [.ref h0, .int x1] (hm_rv RX0 h0)) (QcRead (hm_w3 x1)) 0 0 (fun _ => False) := by
  refine Met.ofW (cc := cX0_waysOfThree) (maxL := 6) (ret := (some .int)) (by decide) rfl ?_
  intro p e s m args below meth c s₁ B hml hv
  obtain ⟨rfl, hrv⟩ := hv
  have hx := B.exec
  have hb := B.bytes
  have hr := B.returns
  have hts := atoms_spec (ws := (ws_ yX0_waysOfThree cX0_waysOfThree 6 (some .int))) B.pre
  have hts : ∀ w ∈ lw_all, w.before _ s = true := fun w h => hts w (List.mem_cons_of_mem _ h)
  have hown : s.vm.findClass RX0 = some m.cls := findClass_of_methodNamed B.named
  have hlocks := B.notSynchronized
  have S : CallFix p m c cX0_waysOfThree 6 s _ lw_all RX0 := ⟨hx, hb, hml, hown, hts⟩
  have hl := lv_entry ([.ref h0, .int x1]) (n := 6) (Nat.le_of_ble_eq_true rfl)
  rw [lg_entry_eq]
  generalize (lg_sl ([.ref h0, .int x1]) ++ List.replicate (6 - (lg_sl ([.ref h0, .int x1])).length) Slot.unset).toArray = ls at hl ⊢
  have hl : lv_has ls 6 [(0, .ref h0), (1, .int x1)] := hl
  refine lv_iconst (v := 0) hx hb dX0_waysOfThree_0 (by decide) ?_
  refine lv_istore_n (lv' := [(2, .int 0), (0, .ref h0), (1, .int x1)]) hx hb dX0_waysOfThree_1 rfl hl (by decide) rfl (fun ls hl => ?_)
  refine lv_iconst (v := 0) hx hb dX0_waysOfThree_2 (by decide) ?_
  refine lv_istore_n (lv' := [(3, .int 0), (2, .int 0), (0, .ref h0), (1, .int x1)]) hx hb dX0_waysOfThree_3 rfl hl (by decide) rfl (fun ls hl => ?_)
  obtain ⟨T4, hT4⟩ : ∃ T, T = hm_w3L x1 13 0 0 := ⟨_, rfl⟩
  have lp4 : ∀ (n4 : Nat) (x2_4 x3_4 : Int32), n4 ≤ 13 → x3_4 = nI (13 - n4) → hm_w3L x1 n4 x2_4 x3_4 = T4 → ∀ ls : Array Slot, lv_has ls 6 [(3, .int x3_4), (2, .int x2_4), (0, .ref h0), (1, .int x1)] → W p l e (headSpec (ws_ yX0_waysOfThree cX0_waysOfThree 6 (some .int)) ({ frames := 0, cells := 0, slots := 0, locals := 0 })).room s m ([.ref h0, .int x1] : List Value).toArray below meth c s.heap [] 0 0 (MQ below (QcRead (hm_w3 x1)) ([.ref h0, .int x1] : List Value).toArray s 0 0 (fun _ => False)) (F0 m 4 ls []) := by
    intro n4
    induction n4 with
    | zero =>
      intro x2_4 x3_4 hn4 e4 hI4 ls hl
      refine lv_iload_n hx hb dX0_waysOfThree_4 rfl (lv_at hl 0 rfl) ?_
      refine lv_bipush (v := 13) hx hb dX0_waysOfThree_5 (by decide) ?_
      refine lv_icmp_ge (tgt := 59) hx hb dX0_waysOfThree_7 (by decide) (fun c7 => ?_) (fun c7 => ?_)
      · obtain rfl : x2_4 = hm_w3L x1 13 0 0 := (show x2_4 = T4 from hI4).trans hT4
        refine lv_iload_n hx hb dX0_waysOfThree_59 rfl (lv_at hl 1 rfl) ?_
        exact hm_iret hx hb hr hlocks (by rw [hm_w3]) dX0_waysOfThree_60
      · exact absurd (hm_ge0 (N := 13) rfl e4) c7
    | succ n4 ih4 =>
      intro x2_4 x3_4 hn4 e4 hI4 ls hl
      refine lv_iload_n hx hb dX0_waysOfThree_4 rfl (lv_at hl 0 rfl) ?_
      refine lv_bipush (v := 13) hx hb dX0_waysOfThree_5 (by decide) ?_
      refine lv_icmp_ge (tgt := 59) hx hb dX0_waysOfThree_7 (by decide) (fun c7 => ?_) (fun c7 => ?_)
      · exact absurd c7 (hm_geS (N := 13) rfl (by decide) hn4 e4)
      · refine lv_iload_n hx hb dX0_waysOfThree_10 rfl (lv_at hl 0 rfl) ?_
        refine lv_iconst (v := 1) hx hb dX0_waysOfThree_11 (by decide) ?_
        refine lv_iadd hx hb dX0_waysOfThree_12 ?_
        refine lv_istore (lv' := [(4, .int (x3_4 + 1)), (3, .int x3_4), (2, .int x2_4), (0, .ref h0), (1, .int x1)]) hx hb dX0_waysOfThree_13 hl (by decide) rfl (fun ls hl => ?_)
        obtain ⟨T15, hT15⟩ : ∃ T, T = hm_w3i x1 x3_4 n4 x2_4 (x3_4 + 1) := ⟨_, rfl⟩
        have lp15 : ∀ (n15 : Nat) (x2_15 x4_15 : Int32), n15 ≤ 13 → x4_15 = nI (13 - n15) → hm_w3i x1 x3_4 n15 x2_15 x4_15 = T15 → ∀ ls : Array Slot, lv_has ls 6 [(4, .int x4_15), (3, .int x3_4), (2, .int x2_15), (0, .ref h0), (1, .int x1)] → W p l e (headSpec (ws_ yX0_waysOfThree cX0_waysOfThree 6 (some .int)) ({ frames := 0, cells := 0, slots := 0, locals := 0 })).room s m ([.ref h0, .int x1] : List Value).toArray below meth c s.heap [] 0 0 (MQ below (QcRead (hm_w3 x1)) ([.ref h0, .int x1] : List Value).toArray s 0 0 (fun _ => False)) (F0 m 15 ls []) := by
          intro n15
          induction n15 with
          | zero =>
            intro x2_15 x4_15 hn15 e15 hI15 ls hl
            refine lv_iload hx hb dX0_waysOfThree_15 (lv_at hl 0 rfl) ?_
            refine lv_bipush (v := 13) hx hb dX0_waysOfThree_17 (by decide) ?_
            refine lv_icmp_ge (tgt := 53) hx hb dX0_waysOfThree_19 (by decide) (fun c19 => ?_) (fun c19 => ?_)
            · obtain rfl : x2_15 = hm_w3i x1 x3_4 n4 x2_4 (x3_4 + 1) := (show x2_15 = T15 from hI15).trans hT15
              refine lv_iinc (v := (x3_4 + 1)) (lv' := [(3, .int (x3_4 + 1)), (4, .int x4_15), (2, .int (hm_w3i x1 x3_4 n4 x2_4 (x3_4 + 1))), (0, .ref h0), (1, .int x1)]) hx hb dX0_waysOfThree_53 hl (k := 1) rfl rfl (by decide) rfl (fun ls hl => ?_)
              refine lv_goto (tgt := 4) hx hb dX0_waysOfThree_56 (by decide) ?_
              exact ih4 (hm_w3i x1 x3_4 n4 x2_4 (x3_4 + 1)) (x3_4 + 1) (Nat.le_of_succ_le hn4) (hm_nx hn4 e4) hI4 ls (lv_sub hl [0, 2, 3, 4] rfl)
            · exact absurd (hm_ge0 (N := 13) rfl e15) c19
          | succ n15 ih15 =>
            intro x2_15 x4_15 hn15 e15 hI15 ls hl
            refine lv_iload hx hb dX0_waysOfThree_15 (lv_at hl 0 rfl) ?_
            refine lv_bipush (v := 13) hx hb dX0_waysOfThree_17 (by decide) ?_
            refine lv_icmp_ge (tgt := 53) hx hb dX0_waysOfThree_19 (by decide) (fun c19 => ?_) (fun c19 => ?_)
            · exact absurd c19 (hm_geS (N := 13) rfl (by decide) hn15 e15)
            · refine lv_iload_n hx hb dX0_waysOfThree_22 rfl (lv_at hl 1 rfl) ?_
              refine lv_iload hx hb dX0_waysOfThree_23 (lv_at hl 0 rfl) ?_
              refine lv_ixor hx hb dX0_waysOfThree_25 ?_
              refine lv_iload_n hx hb dX0_waysOfThree_26 rfl (lv_at hl 4 rfl) ?_
              refine lv_ixor hx hb dX0_waysOfThree_27 ?_
              refine lv_istore (lv' := [(5, .int ((x3_4 ^^^ x4_15) ^^^ x1)), (4, .int x4_15), (3, .int x3_4), (2, .int x2_15), (0, .ref h0), (1, .int x1)]) hx hb dX0_waysOfThree_28 hl (by decide) rfl (fun ls hl => ?_)
              refine lv_iload hx hb dX0_waysOfThree_30 (lv_at hl 0 rfl) ?_
              refine lv_iload hx hb dX0_waysOfThree_32 (lv_at hl 1 rfl) ?_
              refine lv_icmp_le (tgt := 47) hx hb dX0_waysOfThree_34 (by decide) (fun c34 => ?_) (fun c34 => ?_)
              · refine lv_iinc (v := (x4_15 + 1)) (lv' := [(4, .int (x4_15 + 1)), (5, .int ((x3_4 ^^^ x4_15) ^^^ x1)), (3, .int x3_4), (2, .int x2_15), (0, .ref h0), (1, .int x1)]) hx hb dX0_waysOfThree_47 hl (k := 1) rfl rfl (by decide) rfl (fun ls hl => ?_)
                refine lv_goto (tgt := 15) hx hb dX0_waysOfThree_50 (by decide) ?_
                exact ih15 x2_15 (x4_15 + 1) (Nat.le_of_succ_le hn15) (hm_nx hn15 e15) (by rw [hm_w3i, if_pos c34] at hI15; exact hI15) ls (lv_sub hl [0, 2, 3, 4, 5] rfl)
              · refine lv_iload hx hb dX0_waysOfThree_37 (lv_at hl 0 rfl) ?_
                refine lv_bipush (v := 13) hx hb dX0_waysOfThree_39 (by decide) ?_
                refine lv_icmp_ge (tgt := 47) hx hb dX0_waysOfThree_41 (by decide) (fun c41 => ?_) (fun c41 => ?_)
                · refine lv_iinc (v := (x4_15 + 1)) (lv' := [(4, .int (x4_15 + 1)), (5, .int ((x3_4 ^^^ x4_15) ^^^ x1)), (3, .int x3_4), (2, .int x2_15), (0, .ref h0), (1, .int x1)]) hx hb dX0_waysOfThree_47 hl (k := 1) rfl rfl (by decide) rfl (fun ls hl => ?_)
                  refine lv_goto (tgt := 15) hx hb dX0_waysOfThree_50 (by decide) ?_
                  exact ih15 x2_15 (x4_15 + 1) (Nat.le_of_succ_le hn15) (hm_nx hn15 e15) (by rw [hm_w3i, if_neg c34, if_pos c41] at hI15; exact hI15) ls (lv_sub hl [0, 2, 3, 4, 5] rfl)
                · refine lv_iinc (v := (x2_15 + 1)) (lv' := [(2, .int (x2_15 + 1)), (5, .int ((x3_4 ^^^ x4_15) ^^^ x1)), (4, .int x4_15), (3, .int x3_4), (0, .ref h0), (1, .int x1)]) hx hb dX0_waysOfThree_44 hl (k := 3) rfl rfl (by decide) rfl (fun ls hl => ?_)
                  refine lv_iinc (v := (x4_15 + 1)) (lv' := [(4, .int (x4_15 + 1)), (2, .int (x2_15 + 1)), (5, .int ((x3_4 ^^^ x4_15) ^^^ x1)), (3, .int x3_4), (0, .ref h0), (1, .int x1)]) hx hb dX0_waysOfThree_47 hl (k := 2) rfl rfl (by decide) rfl (fun ls hl => ?_)
                  refine lv_goto (tgt := 15) hx hb dX0_waysOfThree_50 (by decide) ?_
                  exact ih15 (x2_15 + 1) (x4_15 + 1) (Nat.le_of_succ_le hn15) (hm_nx hn15 e15) (by rw [hm_w3i, if_neg c34, if_neg c41] at hI15; exact hI15) ls (lv_sub hl [0, 3, 1, 4, 5] rfl)
        exact lp15 n4 x2_4 (x3_4 + 1) (by omega) (hm_nx hn4 e4) hT15.symm ls hl
  exact lp4 13 0 0 (by omega) (by decide) hT4.symm ls hl
set_option maxHeartbeats 4000000 in
theorem ca_X0_waysOfThree {p : Program} {l : Launch} {e : Env} {R : Room} {s : State} {m : MethodId} {args : Array Value} {below : List Frame} {meth : Method} {c : Code} {H : Heap} {locs : List Loc} {cells slots : Nat} {Q : State → Prop} {cc : ByteArray} {nL pc : Nat} {ls : Array Slot} {rest : List Value} {x1 : Int32} {h0 : Nat} (S : CallFix p m c cc nL s args lw_all RX0) (hR : 0 + 1 ≤ R.frames ∧ 8 + (6 + 11) + 0 ≤ R.locals) (hrv : ∃ cell : Cell, H[h0]? = some cell ∧ cell.vm.isStatics = false ∧ s.vm.findClass RX0 = some cell.cls) (hsize : ls.size = nL) (hW : (rest.map fun v => v.category).sum ≤ 8) (hdg : decode cc pc = .ok (.invokevirtual 47, 3)) (hf : cells ≤ R.cells ∧ slots ≤ R.slots) (kk : W p l e R s m args below meth c H locs cells slots Q (F0 m (pc + 3) ls (.int (hm_w3 x1) :: rest))) : W p l e R s m args below meth c H locs cells slots Q (F0 m pc ls (.int x1 :: .ref h0 :: rest)) :=
  hm_call (As := [.int x1]) S (mt_X0_waysOfThree l h0 x1) (cwV 1 S.2.2.2.2 (lw_V q117 q119 qs9 q18 q120) rfl rfl rfl (by decide +kernel) hR) (hm_preR hrv) rfl hsize rfl hW hdg hf kk
end
section
set_option maxHeartbeats 4000000 in
set_option maxRecDepth 100000 in
theorem mt_X0_read (l : Launch) (D : va_G) (h0 hw : Nat) (dS : ClassId) (f : Nat → Int32) (h : Int32) (x1 : Int32) : Met l yX0_read (ws_ yX0_read cX0_read 4 (some .int)) ({ frames := 3, cells := 0, slots := 0, locals := 68 }) (va_Pc [.ref h0, .int x1] (hm_ro D [(h0, .inr (0, [.ref hw, .int (h)])), (hw, .inl (dS, 16, .inl (f)))] [(dS, .short)])) (QcRead (hm_read f x1)) 0 0 (fun _ => False) := by
  refine Met.ofW (cc := cX0_read) (maxL := 4) (ret := (some .int)) (by decide) rfl ?_
  intro p e s m args below meth c s₁ B hml hv
  obtain ⟨rfl, hP, hK⟩ := hv
  have hrv := va_recv hK hP (ci := 0) (q0 := 0) rfl rfl
  have hx := B.exec
  have hb := B.bytes
  have hr := B.returns
  have hts := atoms_spec (ws := (ws_ yX0_read cX0_read 4 (some .int))) B.pre
  have hts : ∀ w ∈ lw_all, w.before _ s = true := fun w h => hts w (List.mem_cons_of_mem _ h)
  have hown : s.vm.findClass RX0 = some m.cls := findClass_of_methodNamed B.named
  have hlocks := B.notSynchronized
  have S : CallFix p m c cX0_read 4 s _ lw_all RX0 := ⟨hx, hb, hml, hown, hts⟩
  have hl := lv_entry ([.ref h0, .int x1]) (n := 4) (Nat.le_of_ble_eq_true rfl)
  rw [lg_entry_eq]
  generalize (lg_sl ([.ref h0, .int x1]) ++ List.replicate (4 - (lg_sl ([.ref h0, .int x1])).length) Slot.unset).toArray = ls at hl ⊢
  have hl : lv_has ls 4 [(0, .ref h0), (1, .int x1)] := hl
  refine lv_aload_n hx hb dX0_read_0 rfl (lv_at hl 0 rfl) ?_
  refine lv_iload_n hx hb dX0_read_1 rfl (lv_at hl 1 rfl) ?_
  refine ca_X0_isWord S ⟨Nat.le_of_ble_eq_true rfl, Nat.le_of_ble_eq_true rfl⟩ hrv hl.1 (Nat.le_of_ble_eq_true rfl) dX0_read_2 ⟨Nat.zero_le _, Nat.zero_le _⟩ ?_
  refine lv_if_ne (tgt := 10) hx hb dX0_read_5 (by decide) (fun c5 => ?_) (fun c5 => ?_)
  · refine lv_aload_n hx hb dX0_read_10 rfl (lv_at hl 0 rfl) ?_
    refine lv_aload_n hx hb dX0_read_11 rfl (lv_at hl 0 rfl) ?_
    refine va_get (D := D) (ci := 0) (v := .ref hw) (C := RX0) (T := TX0) (N := 2) hx hb hts in_X0 hown hK hP 0 rfl rfl 0 (by decide) (hts _ q28) (fun _ h9 => h9) rfl dX0_read_12 ?_
    refine lv_iload_n hx hb dX0_read_15 rfl (lv_at hl 1 rfl) ?_
    refine va_sald hx hb hK hP 1 0 rfl rfl (hm_isWord_in c5) dX0_read_16 ?_
    refine ca_X0_wrongBit S ⟨Nat.le_of_ble_eq_true rfl, Nat.le_of_ble_eq_true rfl⟩ hrv hl.1 (Nat.le_of_ble_eq_true rfl) dX0_read_17 ⟨Nat.zero_le _, Nat.zero_le _⟩ ?_
    refine lv_istore_n (lv' := [(2, .int (hm_wrong (f x1.toNatClampNeg))), (0, .ref h0), (1, .int x1)]) hx hb dX0_read_20 rfl hl (by decide) rfl (fun ls hl => ?_)
    refine lv_iload_n hx hb dX0_read_21 rfl (lv_at hl 0 rfl) ?_
    refine lv_bipush (v := -2) hx hb dX0_read_22 (by decide) ?_
    refine lv_icmp_ne (tgt := 30) hx hb dX0_read_24 (by decide) (fun c24 => ?_) (fun c24 => ?_)
    · refine lv_aload_n hx hb dX0_read_30 rfl (lv_at hl 1 rfl) ?_
      refine lv_aload_n hx hb dX0_read_31 rfl (lv_at hl 1 rfl) ?_
      refine va_get (D := D) (ci := 0) (v := .ref hw) (C := RX0) (T := TX0) (N := 2) hx hb hts in_X0 hown hK hP 0 rfl rfl 0 (by decide) (hts _ q28) (fun _ h9 => h9) rfl dX0_read_32 ?_
      refine lv_iload_n hx hb dX0_read_35 rfl (lv_at hl 2 rfl) ?_
      refine va_sald hx hb hK hP 1 0 rfl rfl (hm_isWord_in c5) dX0_read_36 ?_
      refine lv_iload_n hx hb dX0_read_37 rfl (lv_at hl 0 rfl) ?_
      refine ca_X0_mended S ⟨Nat.le_of_ble_eq_true rfl, Nat.le_of_ble_eq_true rfl⟩ hrv hl.1 (Nat.le_of_ble_eq_true rfl) dX0_read_38 ⟨Nat.zero_le _, Nat.zero_le _⟩ ?_
      refine lv_istore_n (lv' := [(3, .int (hm_mend (f x1.toNatClampNeg) (hm_wrong (f x1.toNatClampNeg)))), (2, .int (hm_wrong (f x1.toNatClampNeg))), (0, .ref h0), (1, .int x1)]) hx hb dX0_read_41 rfl hl (by decide) rfl (fun ls hl => ?_)
      refine lv_aload_n hx hb dX0_read_42 rfl (lv_at hl 2 rfl) ?_
      refine lv_iload_n hx hb dX0_read_43 rfl (lv_at hl 0 rfl) ?_
      refine ca_X0_byteIn S ⟨Nat.le_of_ble_eq_true rfl, Nat.le_of_ble_eq_true rfl⟩ hrv hl.1 (Nat.le_of_ble_eq_true rfl) dX0_read_44 ⟨Nat.zero_le _, Nat.zero_le _⟩ ?_
      exact hm_iret hx hb hr hlocks (by rw [hm_read, if_neg c5, if_neg c24]) dX0_read_47
    · refine lv_bipush (v := -2) hx hb dX0_read_27 (by decide) ?_
      exact hm_iret hx hb hr hlocks (by rw [hm_read, if_neg c5, if_pos c24]) dX0_read_29
  · refine lv_iconst (v := -1) hx hb dX0_read_8 (by decide) ?_
    exact hm_iret hx hb hr hlocks (by rw [hm_read, if_pos c5]) dX0_read_9
set_option maxHeartbeats 4000000 in
theorem ca_X0_read {p : Program} {l : Launch} {e : Env} {R : Room} {s : State} {m : MethodId} {args : Array Value} {below : List Frame} {meth : Method} {c : Code} {H : Heap} {locs : List Loc} {cells slots : Nat} {Q : State → Prop} {cc : ByteArray} {nL pc : Nat} {ls : Array Slot} {rest : List Value} {x1 : Int32} {D : va_G} {h0 hw : Nat} {dS : ClassId} {f : Nat → Int32} {h : Int32} (S : CallFix p m c cc nL s args lw_all RX0) (hR : 3 + 1 ≤ R.frames ∧ 8 + (4 + 11) + 68 ≤ R.locals) (hK : va_K D vwCl [(dS, .short)] s) (hP : va_P D vwCl [(h0, .inr (0, [.ref hw, .int (h)])), (hw, .inl (dS, 16, .inl (f)))] H) (hsize : ls.size = nL) (hW : (rest.map fun v => v.category).sum ≤ 8) (hdg : decode cc pc = .ok (.invokevirtual 53, 3)) (hf : cells ≤ R.cells ∧ slots ≤ R.slots) (kk : W p l e R s m args below meth c H locs cells slots Q (F0 m (pc + 3) ls (.int (hm_read f x1) :: rest))) : W p l e R s m args below meth c H locs cells slots Q (F0 m pc ls (.int x1 :: .ref h0 :: rest)) :=
  hm_call (As := [.int x1]) S (mt_X0_read l D h0 hw dS f h x1) (cwV 1 S.2.2.2.2 (lw_V q129 q69 q70 q18 q71) rfl rfl rfl (by decide +kernel) hR) (hm_preW (ci := 0) hK hP rfl rfl) rfl hsize rfl hW hdg hf kk
set_option maxHeartbeats 4000000 in
set_option maxRecDepth 100000 in
theorem mt_X0_raw (l : Launch) (D : va_G) (h0 hw : Nat) (dS : ClassId) (f : Nat → Int32) (h : Int32) (x1 : Int32) : Met l yX0_raw (ws_ yX0_raw cX0_raw 2 (some .int)) ({ frames := 1, cells := 0, slots := 0, locals := 21 }) (va_Pc [.ref h0, .int x1] (hm_ro D [(h0, .inr (0, [.ref hw, .int (h)])), (hw, .inl (dS, 16, .inl (f)))] [(dS, .short)])) (QcRead (hm_raw f x1)) 0 0 (fun _ => False) := by
  refine Met.ofW (cc := cX0_raw) (maxL := 2) (ret := (some .int)) (by decide) rfl ?_
  intro p e s m args below meth c s₁ B hml hv
  obtain ⟨rfl, hP, hK⟩ := hv
  have hrv := va_recv hK hP (ci := 0) (q0 := 0) rfl rfl
  have hx := B.exec
  have hb := B.bytes
  have hr := B.returns
  have hts := atoms_spec (ws := (ws_ yX0_raw cX0_raw 2 (some .int))) B.pre
  have hts : ∀ w ∈ lw_all, w.before _ s = true := fun w h => hts w (List.mem_cons_of_mem _ h)
  have hown : s.vm.findClass RX0 = some m.cls := findClass_of_methodNamed B.named
  have hlocks := B.notSynchronized
  have S : CallFix p m c cX0_raw 2 s _ lw_all RX0 := ⟨hx, hb, hml, hown, hts⟩
  have hl := lv_entry ([.ref h0, .int x1]) (n := 2) (Nat.le_of_ble_eq_true rfl)
  rw [lg_entry_eq]
  generalize (lg_sl ([.ref h0, .int x1]) ++ List.replicate (2 - (lg_sl ([.ref h0, .int x1])).length) Slot.unset).toArray = ls at hl ⊢
  have hl : lv_has ls 2 [(0, .ref h0), (1, .int x1)] := hl
  refine lv_aload_n hx hb dX0_raw_0 rfl (lv_at hl 0 rfl) ?_
  refine lv_iload_n hx hb dX0_raw_1 rfl (lv_at hl 1 rfl) ?_
  refine ca_X0_isWord S ⟨Nat.le_of_ble_eq_true rfl, Nat.le_of_ble_eq_true rfl⟩ hrv hl.1 (Nat.le_of_ble_eq_true rfl) dX0_raw_2 ⟨Nat.zero_le _, Nat.zero_le _⟩ ?_
  refine lv_if_eq (tgt := 17) hx hb dX0_raw_5 (by decide) (fun c5 => ?_) (fun c5 => ?_)
  · refine lv_iconst (v := -1) hx hb dX0_raw_17 (by decide) ?_
    exact hm_iret hx hb hr hlocks (by rw [hm_raw, if_pos c5]) dX0_raw_18
  · refine lv_aload_n hx hb dX0_raw_8 rfl (lv_at hl 0 rfl) ?_
    refine va_get (D := D) (ci := 0) (v := .ref hw) (C := RX0) (T := TX0) (N := 2) hx hb hts in_X0 hown hK hP 0 rfl rfl 0 (by decide) (hts _ q28) (fun _ h9 => h9) rfl dX0_raw_9 ?_
    refine lv_iload_n hx hb dX0_raw_12 rfl (lv_at hl 1 rfl) ?_
    refine va_sald hx hb hK hP 1 0 rfl rfl (hm_isWord_in c5) dX0_raw_13 ?_
    refine lv_goto (tgt := 18) hx hb dX0_raw_14 (by decide) ?_
    exact hm_iret hx hb hr hlocks (by rw [hm_raw, if_neg c5]) dX0_raw_18
set_option maxHeartbeats 4000000 in
set_option maxRecDepth 100000 in
theorem mt_X0_hand (l : Launch) (D : va_G) (h0 hw : Nat) (dS : ClassId) (f : Nat → Int32) (h : Int32) : Met l yX0_hand (ws_ yX0_hand cX0_hand 1 (some .int)) ({ frames := 0, cells := 0, slots := 0, locals := 0 }) (va_Pc [.ref h0] (hm_ro D [(h0, .inr (0, [.ref hw, .int (h)])), (hw, .inl (dS, 16, .inl (f)))] [(dS, .short)])) (QcRead (h)) 0 0 (fun _ => False) := by
  refine Met.ofW (cc := cX0_hand) (maxL := 1) (ret := (some .int)) (by decide) rfl ?_
  intro p e s m args below meth c s₁ B hml hv
  obtain ⟨rfl, hP, hK⟩ := hv
  have hrv := va_recv hK hP (ci := 0) (q0 := 0) rfl rfl
  have hx := B.exec
  have hb := B.bytes
  have hr := B.returns
  have hts := atoms_spec (ws := (ws_ yX0_hand cX0_hand 1 (some .int))) B.pre
  have hts : ∀ w ∈ lw_all, w.before _ s = true := fun w h => hts w (List.mem_cons_of_mem _ h)
  have hown : s.vm.findClass RX0 = some m.cls := findClass_of_methodNamed B.named
  have hlocks := B.notSynchronized
  have S : CallFix p m c cX0_hand 1 s _ lw_all RX0 := ⟨hx, hb, hml, hown, hts⟩
  have hl := lv_entry ([.ref h0]) (n := 1) (Nat.le_of_ble_eq_true rfl)
  rw [lg_entry_eq]
  generalize (lg_sl ([.ref h0]) ++ List.replicate (1 - (lg_sl ([.ref h0])).length) Slot.unset).toArray = ls at hl ⊢
  have hl : lv_has ls 1 [(0, .ref h0)] := hl
  refine lv_aload_n hx hb dX0_hand_0 rfl (lv_at hl 0 rfl) ?_
  refine va_get (D := D) (ci := 0) (v := .int h) (C := RX0) (T := TX0) (N := 2) hx hb hts in_X0 hown hK hP 0 rfl rfl 1 (by decide) (hts _ q29) (fun _ h9 => h9) rfl dX0_hand_1 ?_
  exact hm_iret hx hb hr hlocks (by rw [(rfl : h = h)]) dX0_hand_4
set_option maxHeartbeats 4000000 in
set_option maxRecDepth 100000 in
theorem mt_X0_broken (l : Launch) (D : va_G) (h0 hw : Nat) (dS : ClassId) (f : Nat → Int32) (h : Int32) : Met l yX0_broken (ws_ yX0_broken cX0_broken 3 (some .int)) ({ frames := 3, cells := 0, slots := 0, locals := 68 }) (va_Pc [.ref h0] (hm_ro D [(h0, .inr (0, [.ref hw, .int (h)])), (hw, .inl (dS, 16, .inl (f)))] [(dS, .short)])) (QcRead (hm_brk f)) 0 0 (fun _ => False) := by
  refine Met.ofW (cc := cX0_broken) (maxL := 3) (ret := (some .int)) (by decide) rfl ?_
  intro p e s m args below meth c s₁ B hml hv
  obtain ⟨rfl, hP, hK⟩ := hv
  have hrv := va_recv hK hP (ci := 0) (q0 := 0) rfl rfl
  have hx := B.exec
  have hb := B.bytes
  have hr := B.returns
  have hts := atoms_spec (ws := (ws_ yX0_broken cX0_broken 3 (some .int))) B.pre
  have hts : ∀ w ∈ lw_all, w.before _ s = true := fun w h => hts w (List.mem_cons_of_mem _ h)
  have hown : s.vm.findClass RX0 = some m.cls := findClass_of_methodNamed B.named
  have hlocks := B.notSynchronized
  have S : CallFix p m c cX0_broken 3 s _ lw_all RX0 := ⟨hx, hb, hml, hown, hts⟩
  have hl := lv_entry ([.ref h0]) (n := 3) (Nat.le_of_ble_eq_true rfl)
  rw [lg_entry_eq]
  generalize (lg_sl ([.ref h0]) ++ List.replicate (3 - (lg_sl ([.ref h0])).length) Slot.unset).toArray = ls at hl ⊢
  have hl : lv_has ls 3 [(0, .ref h0)] := hl
  refine lv_iconst (v := 0) hx hb dX0_broken_0 (by decide) ?_
  refine lv_istore_n (lv' := [(1, .int 0), (0, .ref h0)]) hx hb dX0_broken_1 rfl hl (by decide) rfl (fun ls hl => ?_)
  refine lv_iconst (v := 0) hx hb dX0_broken_2 (by decide) ?_
  refine lv_istore_n (lv' := [(2, .int 0), (1, .int 0), (0, .ref h0)]) hx hb dX0_broken_3 rfl hl (by decide) rfl (fun ls hl => ?_)
  obtain ⟨T4, hT4⟩ : ∃ T, T = hm_brkL f 16 0 0 := ⟨_, rfl⟩
  have lp4 : ∀ (n4 : Nat) (x1_4 x2_4 : Int32), n4 ≤ 16 → x2_4 = nI (16 - n4) → hm_brkL f n4 x1_4 x2_4 = T4 → ∀ ls : Array Slot, lv_has ls 3 [(2, .int x2_4), (1, .int x1_4), (0, .ref h0)] → W p l e (headSpec (ws_ yX0_broken cX0_broken 3 (some .int)) ({ frames := 3, cells := 0, slots := 0, locals := 68 })).room s m ([.ref h0] : List Value).toArray below meth c s.heap [] 0 0 (MQ below (QcRead (hm_brk f)) ([.ref h0] : List Value).toArray s 0 0 (fun _ => False)) (F0 m 4 ls []) := by
    intro n4
    induction n4 with
    | zero =>
      intro x1_4 x2_4 hn4 e4 hI4 ls hl
      refine lv_iload_n hx hb dX0_broken_4 rfl (lv_at hl 0 rfl) ?_
      refine lv_bipush (v := 16) hx hb dX0_broken_5 (by decide) ?_
      refine lv_icmp_ge (tgt := 34) hx hb dX0_broken_7 (by decide) (fun c7 => ?_) (fun c7 => ?_)
      · obtain rfl : x1_4 = hm_brkL f 16 0 0 := (show x1_4 = T4 from hI4).trans hT4
        refine lv_iload_n hx hb dX0_broken_34 rfl (lv_at hl 1 rfl) ?_
        exact hm_iret hx hb hr hlocks (by rw [hm_brk]) dX0_broken_35
      · exact absurd (hm_ge0 (N := 16) rfl e4) c7
    | succ n4 ih4 =>
      intro x1_4 x2_4 hn4 e4 hI4 ls hl
      refine lv_iload_n hx hb dX0_broken_4 rfl (lv_at hl 0 rfl) ?_
      refine lv_bipush (v := 16) hx hb dX0_broken_5 (by decide) ?_
      refine lv_icmp_ge (tgt := 34) hx hb dX0_broken_7 (by decide) (fun c7 => ?_) (fun c7 => ?_)
      · exact absurd c7 (hm_geS (N := 16) rfl (by decide) hn4 e4)
      · refine lv_aload_n hx hb dX0_broken_10 rfl (lv_at hl 2 rfl) ?_
        refine lv_aload_n hx hb dX0_broken_11 rfl (lv_at hl 2 rfl) ?_
        refine va_get (D := D) (ci := 0) (v := .ref hw) (C := RX0) (T := TX0) (N := 2) hx hb hts in_X0 hown hK hP 0 rfl rfl 0 (by decide) (hts _ q28) (fun _ h9 => h9) rfl dX0_broken_12 ?_
        refine lv_iload_n hx hb dX0_broken_15 rfl (lv_at hl 0 rfl) ?_
        refine va_sald hx hb hK hP 1 0 rfl rfl (hm_in (N := 16) (by decide) hn4 e4) dX0_broken_16 ?_
        refine ca_X0_wrongBit S ⟨Nat.le_of_ble_eq_true rfl, Nat.le_of_ble_eq_true rfl⟩ hrv hl.1 (Nat.le_of_ble_eq_true rfl) dX0_broken_17 ⟨Nat.zero_le _, Nat.zero_le _⟩ ?_
        refine lv_bipush (v := -2) hx hb dX0_broken_20 (by decide) ?_
        refine lv_icmp_ne (tgt := 28) hx hb dX0_broken_22 (by decide) (fun c22 => ?_) (fun c22 => ?_)
        · refine lv_iinc (v := (x2_4 + 1)) (lv' := [(2, .int (x2_4 + 1)), (1, .int x1_4), (0, .ref h0)]) hx hb dX0_broken_28 hl (k := 0) rfl rfl (by decide) rfl (fun ls hl => ?_)
          refine lv_goto (tgt := 4) hx hb dX0_broken_31 (by decide) ?_
          exact ih4 x1_4 (x2_4 + 1) (Nat.le_of_succ_le hn4) (hm_nx hn4 e4) (by rw [hm_brkL, if_neg c22] at hI4; exact hI4) ls (lv_sub hl [0, 1, 2] rfl)
        · refine lv_iinc (v := (x1_4 + 1)) (lv' := [(1, .int (x1_4 + 1)), (2, .int x2_4), (0, .ref h0)]) hx hb dX0_broken_25 hl (k := 1) rfl rfl (by decide) rfl (fun ls hl => ?_)
          refine lv_iinc (v := (x2_4 + 1)) (lv' := [(2, .int (x2_4 + 1)), (1, .int (x1_4 + 1)), (0, .ref h0)]) hx hb dX0_broken_28 hl (k := 1) rfl rfl (by decide) rfl (fun ls hl => ?_)
          refine lv_goto (tgt := 4) hx hb dX0_broken_31 (by decide) ?_
          exact ih4 (x1_4 + 1) (x2_4 + 1) (Nat.le_of_succ_le hn4) (hm_nx hn4 e4) (by rw [hm_brkL, if_pos c22] at hI4; exact hI4) ls (lv_sub hl [0, 1, 2] rfl)
  exact lp4 16 0 0 (by omega) (by decide) hT4.symm ls hl
set_option maxHeartbeats 4000000 in
set_option maxRecDepth 100000 in
theorem mt_X0_marred (l : Launch) (D : va_G) (h0 hw : Nat) (dS : ClassId) (f : Nat → Int32) (h : Int32) : Met l yX0_marred (ws_ yX0_marred cX0_marred 4 (some .int)) ({ frames := 3, cells := 0, slots := 0, locals := 68 }) (va_Pc [.ref h0] (hm_ro D [(h0, .inr (0, [.ref hw, .int (h)])), (hw, .inl (dS, 16, .inl (f)))] [(dS, .short)])) (QcRead (hm_mar f)) 0 0 (fun _ => False) := by
  refine Met.ofW (cc := cX0_marred) (maxL := 4) (ret := (some .int)) (by decide) rfl ?_
  intro p e s m args below meth c s₁ B hml hv
  obtain ⟨rfl, hP, hK⟩ := hv
  have hrv := va_recv hK hP (ci := 0) (q0 := 0) rfl rfl
  have hx := B.exec
  have hb := B.bytes
  have hr := B.returns
  have hts := atoms_spec (ws := (ws_ yX0_marred cX0_marred 4 (some .int))) B.pre
  have hts : ∀ w ∈ lw_all, w.before _ s = true := fun w h => hts w (List.mem_cons_of_mem _ h)
  have hown : s.vm.findClass RX0 = some m.cls := findClass_of_methodNamed B.named
  have hlocks := B.notSynchronized
  have S : CallFix p m c cX0_marred 4 s _ lw_all RX0 := ⟨hx, hb, hml, hown, hts⟩
  have hl := lv_entry ([.ref h0]) (n := 4) (Nat.le_of_ble_eq_true rfl)
  rw [lg_entry_eq]
  generalize (lg_sl ([.ref h0]) ++ List.replicate (4 - (lg_sl ([.ref h0])).length) Slot.unset).toArray = ls at hl ⊢
  have hl : lv_has ls 4 [(0, .ref h0)] := hl
  refine lv_iconst (v := 0) hx hb dX0_marred_0 (by decide) ?_
  refine lv_istore_n (lv' := [(1, .int 0), (0, .ref h0)]) hx hb dX0_marred_1 rfl hl (by decide) rfl (fun ls hl => ?_)
  refine lv_iconst (v := 0) hx hb dX0_marred_2 (by decide) ?_
  refine lv_istore_n (lv' := [(2, .int 0), (1, .int 0), (0, .ref h0)]) hx hb dX0_marred_3 rfl hl (by decide) rfl (fun ls hl => ?_)
  obtain ⟨T4, hT4⟩ : ∃ T, T = hm_marL f 16 0 0 := ⟨_, rfl⟩
  have lp4 : ∀ (n4 : Nat) (x1_4 x2_4 : Int32), n4 ≤ 16 → x2_4 = nI (16 - n4) → hm_marL f n4 x1_4 x2_4 = T4 → ∀ ls : Array Slot, lv_has ls 4 [(2, .int x2_4), (1, .int x1_4), (0, .ref h0)] → W p l e (headSpec (ws_ yX0_marred cX0_marred 4 (some .int)) ({ frames := 3, cells := 0, slots := 0, locals := 68 })).room s m ([.ref h0] : List Value).toArray below meth c s.heap [] 0 0 (MQ below (QcRead (hm_mar f)) ([.ref h0] : List Value).toArray s 0 0 (fun _ => False)) (F0 m 4 ls []) := by
    intro n4
    induction n4 with
    | zero =>
      intro x1_4 x2_4 hn4 e4 hI4 ls hl
      refine lv_iload_n hx hb dX0_marred_4 rfl (lv_at hl 0 rfl) ?_
      refine lv_bipush (v := 16) hx hb dX0_marred_5 (by decide) ?_
      refine lv_icmp_ge (tgt := 40) hx hb dX0_marred_7 (by decide) (fun c7 => ?_) (fun c7 => ?_)
      · obtain rfl : x1_4 = hm_marL f 16 0 0 := (show x1_4 = T4 from hI4).trans hT4
        refine lv_iload_n hx hb dX0_marred_40 rfl (lv_at hl 1 rfl) ?_
        exact hm_iret hx hb hr hlocks (by rw [hm_mar]) dX0_marred_41
      · exact absurd (hm_ge0 (N := 16) rfl e4) c7
    | succ n4 ih4 =>
      intro x1_4 x2_4 hn4 e4 hI4 ls hl
      refine lv_iload_n hx hb dX0_marred_4 rfl (lv_at hl 0 rfl) ?_
      refine lv_bipush (v := 16) hx hb dX0_marred_5 (by decide) ?_
      refine lv_icmp_ge (tgt := 40) hx hb dX0_marred_7 (by decide) (fun c7 => ?_) (fun c7 => ?_)
      · exact absurd c7 (hm_geS (N := 16) rfl (by decide) hn4 e4)
      · refine lv_aload_n hx hb dX0_marred_10 rfl (lv_at hl 2 rfl) ?_
        refine lv_aload_n hx hb dX0_marred_11 rfl (lv_at hl 2 rfl) ?_
        refine va_get (D := D) (ci := 0) (v := .ref hw) (C := RX0) (T := TX0) (N := 2) hx hb hts in_X0 hown hK hP 0 rfl rfl 0 (by decide) (hts _ q28) (fun _ h9 => h9) rfl dX0_marred_12 ?_
        refine lv_iload_n hx hb dX0_marred_15 rfl (lv_at hl 0 rfl) ?_
        refine va_sald hx hb hK hP 1 0 rfl rfl (hm_in (N := 16) (by decide) hn4 e4) dX0_marred_16 ?_
        refine ca_X0_wrongBit S ⟨Nat.le_of_ble_eq_true rfl, Nat.le_of_ble_eq_true rfl⟩ hrv hl.1 (Nat.le_of_ble_eq_true rfl) dX0_marred_17 ⟨Nat.zero_le _, Nat.zero_le _⟩ ?_
        refine lv_istore_n (lv' := [(3, .int (hm_wrong (f x2_4.toNatClampNeg))), (2, .int x2_4), (1, .int x1_4), (0, .ref h0)]) hx hb dX0_marred_20 rfl hl (by decide) rfl (fun ls hl => ?_)
        refine lv_iload_n hx hb dX0_marred_21 rfl (lv_at hl 0 rfl) ?_
        refine lv_if_lt (tgt := 34) hx hb dX0_marred_22 (by decide) (fun c22 => ?_) (fun c22 => ?_)
        · refine lv_iinc (v := (x2_4 + 1)) (lv' := [(2, .int (x2_4 + 1)), (3, .int (hm_wrong (f x2_4.toNatClampNeg))), (1, .int x1_4), (0, .ref h0)]) hx hb dX0_marred_34 hl (k := 1) rfl rfl (by decide) rfl (fun ls hl => ?_)
          refine lv_goto (tgt := 4) hx hb dX0_marred_37 (by decide) ?_
          exact ih4 x1_4 (x2_4 + 1) (Nat.le_of_succ_le hn4) (hm_nx hn4 e4) (by rw [hm_marL, if_pos c22] at hI4; exact hI4) ls (lv_sub hl [0, 2, 3] rfl)
        · refine lv_iload_n hx hb dX0_marred_25 rfl (lv_at hl 0 rfl) ?_
          refine lv_bipush (v := 13) hx hb dX0_marred_26 (by decide) ?_
          refine lv_icmp_ge (tgt := 34) hx hb dX0_marred_28 (by decide) (fun c28 => ?_) (fun c28 => ?_)
          · refine lv_iinc (v := (x2_4 + 1)) (lv' := [(2, .int (x2_4 + 1)), (3, .int (hm_wrong (f x2_4.toNatClampNeg))), (1, .int x1_4), (0, .ref h0)]) hx hb dX0_marred_34 hl (k := 1) rfl rfl (by decide) rfl (fun ls hl => ?_)
            refine lv_goto (tgt := 4) hx hb dX0_marred_37 (by decide) ?_
            exact ih4 x1_4 (x2_4 + 1) (Nat.le_of_succ_le hn4) (hm_nx hn4 e4) (by rw [hm_marL, if_neg c22, if_pos c28] at hI4; exact hI4) ls (lv_sub hl [0, 2, 3] rfl)
          · refine lv_iinc (v := (x1_4 + 1)) (lv' := [(1, .int (x1_4 + 1)), (3, .int (hm_wrong (f x2_4.toNatClampNeg))), (2, .int x2_4), (0, .ref h0)]) hx hb dX0_marred_31 hl (k := 2) rfl rfl (by decide) rfl (fun ls hl => ?_)
            refine lv_iinc (v := (x2_4 + 1)) (lv' := [(2, .int (x2_4 + 1)), (1, .int (x1_4 + 1)), (3, .int (hm_wrong (f x2_4.toNatClampNeg))), (0, .ref h0)]) hx hb dX0_marred_34 hl (k := 2) rfl rfl (by decide) rfl (fun ls hl => ?_)
            refine lv_goto (tgt := 4) hx hb dX0_marred_37 (by decide) ?_
            exact ih4 (x1_4 + 1) (x2_4 + 1) (Nat.le_of_succ_le hn4) (hm_nx hn4 e4) (by rw [hm_marL, if_neg c22, if_neg c28] at hI4; exact hI4) ls (lv_sub hl [0, 1, 3] rfl)
  exact lp4 16 0 0 (by omega) (by decide) hT4.symm ls hl
set_option maxHeartbeats 4000000 in
set_option maxRecDepth 100000 in
theorem mt_X0_distance (l : Launch) (D : va_G) (h0 hw : Nat) (dS : ClassId) (f : Nat → Int32) (h : Int32) (x1 : Int32) (x2 : Int32) : Met l yX0_distance (ws_ yX0_distance cX0_distance 4 (some .int)) ({ frames := 3, cells := 0, slots := 0, locals := 69 }) (va_Pc [.ref h0, .int x1, .int x2] (hm_ro D [(h0, .inr (0, [.ref hw, .int (h)])), (hw, .inl (dS, 16, .inl (f)))] [(dS, .short)])) (QcRead (hm_dist f x1 x2)) 0 0 (fun _ => False) := by
  refine Met.ofW (cc := cX0_distance) (maxL := 4) (ret := (some .int)) (by decide) rfl ?_
  intro p e s m args below meth c s₁ B hml hv
  obtain ⟨rfl, hP, hK⟩ := hv
  have hrv := va_recv hK hP (ci := 0) (q0 := 0) rfl rfl
  have hx := B.exec
  have hb := B.bytes
  have hr := B.returns
  have hts := atoms_spec (ws := (ws_ yX0_distance cX0_distance 4 (some .int))) B.pre
  have hts : ∀ w ∈ lw_all, w.before _ s = true := fun w h => hts w (List.mem_cons_of_mem _ h)
  have hown : s.vm.findClass RX0 = some m.cls := findClass_of_methodNamed B.named
  have hlocks := B.notSynchronized
  have S : CallFix p m c cX0_distance 4 s _ lw_all RX0 := ⟨hx, hb, hml, hown, hts⟩
  have hl := lv_entry ([.ref h0, .int x1, .int x2]) (n := 4) (Nat.le_of_ble_eq_true rfl)
  rw [lg_entry_eq]
  generalize (lg_sl ([.ref h0, .int x1, .int x2]) ++ List.replicate (4 - (lg_sl ([.ref h0, .int x1, .int x2])).length) Slot.unset).toArray = ls at hl ⊢
  have hl : lv_has ls 4 [(0, .ref h0), (1, .int x1), (2, .int x2)] := hl
  refine lv_aload_n hx hb dX0_distance_0 rfl (lv_at hl 0 rfl) ?_
  refine lv_iload_n hx hb dX0_distance_1 rfl (lv_at hl 1 rfl) ?_
  refine ca_X0_isWord S ⟨Nat.le_of_ble_eq_true rfl, Nat.le_of_ble_eq_true rfl⟩ hrv hl.1 (Nat.le_of_ble_eq_true rfl) dX0_distance_2 ⟨Nat.zero_le _, Nat.zero_le _⟩ ?_
  refine lv_if_eq (tgt := 19) hx hb dX0_distance_5 (by decide) (fun c5 => ?_) (fun c5 => ?_)
  · refine lv_iconst (v := -1) hx hb dX0_distance_19 (by decide) ?_
    exact hm_iret hx hb hr hlocks (by rw [hm_dist, if_pos c5]) dX0_distance_20
  · refine lv_iload_n hx hb dX0_distance_8 rfl (lv_at hl 2 rfl) ?_
    refine lv_if_lt (tgt := 19) hx hb dX0_distance_9 (by decide) (fun c9 => ?_) (fun c9 => ?_)
    · refine lv_iconst (v := -1) hx hb dX0_distance_19 (by decide) ?_
      exact hm_iret hx hb hr hlocks (by rw [hm_dist, if_neg c5, if_pos c9]) dX0_distance_20
    · refine lv_iload_n hx hb dX0_distance_12 rfl (lv_at hl 2 rfl) ?_
      refine lv_sipush (v := 255) hx hb dX0_distance_13 (by decide) ?_
      refine lv_icmp_le (tgt := 21) hx hb dX0_distance_16 (by decide) (fun c16 => ?_) (fun c16 => ?_)
      · refine lv_aload_n hx hb dX0_distance_21 rfl (lv_at hl 0 rfl) ?_
        refine lv_iload_n hx hb dX0_distance_22 rfl (lv_at hl 2 rfl) ?_
        refine ca_X0_encoded S ⟨Nat.le_of_ble_eq_true rfl, Nat.le_of_ble_eq_true rfl⟩ hrv hl.1 (Nat.le_of_ble_eq_true rfl) dX0_distance_23 ⟨Nat.zero_le _, Nat.zero_le _⟩ ?_
        refine lv_istore_n (lv' := [(3, .int (hm_enc x2)), (0, .ref h0), (1, .int x1), (2, .int x2)]) hx hb dX0_distance_26 rfl hl (by decide) rfl (fun ls hl => ?_)
        refine lv_aload_n hx hb dX0_distance_27 rfl (lv_at hl 1 rfl) ?_
        refine lv_aload_n hx hb dX0_distance_28 rfl (lv_at hl 1 rfl) ?_
        refine va_get (D := D) (ci := 0) (v := .ref hw) (C := RX0) (T := TX0) (N := 2) hx hb hts in_X0 hown hK hP 0 rfl rfl 0 (by decide) (hts _ q28) (fun _ h9 => h9) rfl dX0_distance_29 ?_
        refine lv_iload_n hx hb dX0_distance_32 rfl (lv_at hl 2 rfl) ?_
        refine va_sald hx hb hK hP 1 0 rfl rfl (hm_isWord_in c5) dX0_distance_33 ?_
        refine lv_iload_n hx hb dX0_distance_34 rfl (lv_at hl 0 rfl) ?_
        refine lv_ixor hx hb dX0_distance_35 ?_
        refine ca_X0_onesIn S ⟨Nat.le_of_ble_eq_true rfl, Nat.le_of_ble_eq_true rfl⟩ hrv hl.1 (Nat.le_of_ble_eq_true rfl) dX0_distance_36 ⟨Nat.zero_le _, Nat.zero_le _⟩ ?_
        exact hm_iret hx hb hr hlocks (by rw [hm_dist, if_neg c5, if_neg c9, if_pos c16]) dX0_distance_39
      · refine lv_iconst (v := -1) hx hb dX0_distance_19 (by decide) ?_
        exact hm_iret hx hb hr hlocks (by rw [hm_dist, if_neg c5, if_neg c9, if_neg c16]) dX0_distance_20
set_option maxHeartbeats 4000000 in
set_option maxRecDepth 100000 in
theorem mt_X0_nearest (l : Launch) (D : va_G) (h0 hw : Nat) (dS : ClassId) (f : Nat → Int32) (h : Int32) (x1 : Int32) : Met l yX0_nearest (ws_ yX0_nearest cX0_nearest 5 (some .int)) ({ frames := 3, cells := 0, slots := 0, locals := 68 }) (va_Pc [.ref h0, .int x1] (hm_ro D [(h0, .inr (0, [.ref hw, .int (h)])), (hw, .inl (dS, 16, .inl (f)))] [(dS, .short)])) (QcRead (hm_near f x1)) 0 0 (fun _ => False) := by
  refine Met.ofW (cc := cX0_nearest) (maxL := 5) (ret := (some .int)) (by decide) rfl ?_
  intro p e s m args below meth c s₁ B hml hv
  obtain ⟨rfl, hP, hK⟩ := hv
  have hrv := va_recv hK hP (ci := 0) (q0 := 0) rfl rfl
  have hx := B.exec
  have hb := B.bytes
  have hr := B.returns
  have hts := atoms_spec (ws := (ws_ yX0_nearest cX0_nearest 5 (some .int))) B.pre
  have hts : ∀ w ∈ lw_all, w.before _ s = true := fun w h => hts w (List.mem_cons_of_mem _ h)
  have hown : s.vm.findClass RX0 = some m.cls := findClass_of_methodNamed B.named
  have hlocks := B.notSynchronized
  have S : CallFix p m c cX0_nearest 5 s _ lw_all RX0 := ⟨hx, hb, hml, hown, hts⟩
  have hl := lv_entry ([.ref h0, .int x1]) (n := 5) (Nat.le_of_ble_eq_true rfl)
  rw [lg_entry_eq]
  generalize (lg_sl ([.ref h0, .int x1]) ++ List.replicate (5 - (lg_sl ([.ref h0, .int x1])).length) Slot.unset).toArray = ls at hl ⊢
  have hl : lv_has ls 5 [(0, .ref h0), (1, .int x1)] := hl
  refine lv_aload_n hx hb dX0_nearest_0 rfl (lv_at hl 0 rfl) ?_
  refine lv_iload_n hx hb dX0_nearest_1 rfl (lv_at hl 1 rfl) ?_
  refine ca_X0_isWord S ⟨Nat.le_of_ble_eq_true rfl, Nat.le_of_ble_eq_true rfl⟩ hrv hl.1 (Nat.le_of_ble_eq_true rfl) dX0_nearest_2 ⟨Nat.zero_le _, Nat.zero_le _⟩ ?_
  refine lv_if_ne (tgt := 10) hx hb dX0_nearest_5 (by decide) (fun c5 => ?_) (fun c5 => ?_)
  · refine lv_aload_n hx hb dX0_nearest_10 rfl (lv_at hl 0 rfl) ?_
    refine va_get (D := D) (ci := 0) (v := .ref hw) (C := RX0) (T := TX0) (N := 2) hx hb hts in_X0 hown hK hP 0 rfl rfl 0 (by decide) (hts _ q28) (fun _ h9 => h9) rfl dX0_nearest_11 ?_
    refine lv_iload_n hx hb dX0_nearest_14 rfl (lv_at hl 1 rfl) ?_
    refine va_sald hx hb hK hP 1 0 rfl rfl (hm_isWord_in c5) dX0_nearest_15 ?_
    refine lv_istore_n (lv' := [(2, .int (f x1.toNatClampNeg)), (0, .ref h0), (1, .int x1)]) hx hb dX0_nearest_16 rfl hl (by decide) rfl (fun ls hl => ?_)
    refine lv_aload_n hx hb dX0_nearest_17 rfl (lv_at hl 1 rfl) ?_
    refine lv_iload_n hx hb dX0_nearest_18 rfl (lv_at hl 0 rfl) ?_
    refine ca_X0_wrongBit S ⟨Nat.le_of_ble_eq_true rfl, Nat.le_of_ble_eq_true rfl⟩ hrv hl.1 (Nat.le_of_ble_eq_true rfl) dX0_nearest_19 ⟨Nat.zero_le _, Nat.zero_le _⟩ ?_
    refine lv_istore_n (lv' := [(3, .int (hm_wrong (f x1.toNatClampNeg))), (2, .int (f x1.toNatClampNeg)), (0, .ref h0), (1, .int x1)]) hx hb dX0_nearest_22 rfl hl (by decide) rfl (fun ls hl => ?_)
    refine lv_iload_n hx hb dX0_nearest_23 rfl (lv_at hl 0 rfl) ?_
    refine lv_bipush (v := 13) hx hb dX0_nearest_24 (by decide) ?_
    refine lv_icmp_ne (tgt := 31) hx hb dX0_nearest_26 (by decide) (fun c26 => ?_) (fun c26 => ?_)
    · refine lv_iload_n hx hb dX0_nearest_31 rfl (lv_at hl 0 rfl) ?_
      refine lv_if_lt (tgt := 39) hx hb dX0_nearest_32 (by decide) (fun c32 => ?_) (fun c32 => ?_)
      · refine lv_aload_n hx hb dX0_nearest_39 rfl (lv_at hl 2 rfl) ?_
        refine lv_iload_n hx hb dX0_nearest_40 rfl (lv_at hl 1 rfl) ?_
        refine ca_X0_checksOf S ⟨Nat.le_of_ble_eq_true rfl, Nat.le_of_ble_eq_true rfl⟩ hrv hl.1 (Nat.le_of_ble_eq_true rfl) dX0_nearest_41 ⟨Nat.zero_le _, Nat.zero_le _⟩ ?_
        refine lv_istore (lv' := [(4, .int (hm_chk (f x1.toNatClampNeg))), (3, .int (hm_wrong (f x1.toNatClampNeg))), (2, .int (f x1.toNatClampNeg)), (0, .ref h0), (1, .int x1)]) hx hb dX0_nearest_44 hl (by decide) rfl (fun ls hl => ?_)
        refine lv_aload_n hx hb dX0_nearest_46 rfl (lv_at hl 3 rfl) ?_
        refine lv_iload_n hx hb dX0_nearest_47 rfl (lv_at hl 2 rfl) ?_
        refine ca_X0_isOdd S ⟨Nat.le_of_ble_eq_true rfl, Nat.le_of_ble_eq_true rfl⟩ hrv hl.1 (Nat.le_of_ble_eq_true rfl) dX0_nearest_48 ⟨Nat.zero_le _, Nat.zero_le _⟩ ?_
        refine lv_if_eq (tgt := 65) hx hb dX0_nearest_51 (by decide) (fun c51 => ?_) (fun c51 => ?_)
        · refine lv_sipush (v := 2000) hx hb dX0_nearest_65 (by decide) ?_
          refine lv_aload_n hx hb dX0_nearest_68 rfl (lv_at hl 3 rfl) ?_
          refine lv_iload hx hb dX0_nearest_69 (lv_at hl 0 rfl) ?_
          refine ca_X0_waysOfTwo S ⟨Nat.le_of_ble_eq_true rfl, Nat.le_of_ble_eq_true rfl⟩ hrv hl.1 (Nat.le_of_ble_eq_true rfl) dX0_nearest_71 ⟨Nat.zero_le _, Nat.zero_le _⟩ ?_
          refine lv_iadd hx hb dX0_nearest_74 ?_
          exact hm_iret hx hb hr hlocks (by rw [hm_near, if_neg c5, hm_nearW, if_neg c26, if_pos c32, if_pos c51]) dX0_nearest_75
        · refine lv_sipush (v := 3000) hx hb dX0_nearest_54 (by decide) ?_
          refine lv_aload_n hx hb dX0_nearest_57 rfl (lv_at hl 3 rfl) ?_
          refine lv_iload hx hb dX0_nearest_58 (lv_at hl 0 rfl) ?_
          refine ca_X0_waysOfThree S ⟨Nat.le_of_ble_eq_true rfl, Nat.le_of_ble_eq_true rfl⟩ hrv hl.1 (Nat.le_of_ble_eq_true rfl) dX0_nearest_60 ⟨Nat.zero_le _, Nat.zero_le _⟩ ?_
          refine lv_iadd hx hb dX0_nearest_63 ?_
          exact hm_iret hx hb hr hlocks (by rw [hm_near, if_neg c5, hm_nearW, if_neg c26, if_pos c32, if_neg c51]) dX0_nearest_64
      · refine lv_sipush (v := 1001) hx hb dX0_nearest_35 (by decide) ?_
        exact hm_iret hx hb hr hlocks (by rw [hm_near, if_neg c5, hm_nearW, if_neg c26, if_neg c32]) dX0_nearest_38
    · refine lv_iconst (v := 1) hx hb dX0_nearest_29 (by decide) ?_
      exact hm_iret hx hb hr hlocks (by rw [hm_near, if_neg c5, hm_nearW, if_pos c26]) dX0_nearest_30
  · refine lv_iconst (v := -1) hx hb dX0_nearest_8 (by decide) ?_
    exact hm_iret hx hb hr hlocks (by rw [hm_near, if_pos c5]) dX0_nearest_9
end
section
set_option maxHeartbeats 4000000 in
set_option maxRecDepth 100000 in
theorem mt_X0_write (l : Launch) (D : va_G) (h0 hw : Nat) (dS : ClassId) (f : Nat → Int32) (h : Int32) (sz : Nat) (x1 : Int32) (x2 : Int32) : Met l yX0_write (ws_ yX0_write cX0_write 3 (some .int)) ({ frames := 3, cells := 0, slots := 0, locals := 69 }) (va_Pc [.ref h0, .int x1, .int x2] (fun U => U.heap.size = sz ∧ va_P D vwCl [(h0, .inr (0, [.ref hw, .int (h)])), (hw, .inl (dS, 16, .inl (f)))] U.heap ∧ va_K D vwCl [(dS, .short)] U ∧ va_D (fun _ => True) [(h0, .inr (0, [.ref hw, .int (h)])), (hw, .inl (dS, 16, .inl (f)))])) (va_Qi (fun (r : Int32) (u : Nat → Int32) => (r, u) = hm_write f x1 x2) (fun u t => va_P D vwCl [(h0, .inr (0, [.ref hw, .int (h)])), (hw, .inl (dS, 16, .inl (u)))] t.heap ∧ va_D (va_A [(h0, .inr (0, [.ref hw, .int (h)])), (hw, .inl (dS, 16, .inl (f)))] sz) [(h0, .inr (0, [.ref hw, .int (h)])), (hw, .inl (dS, 16, .inl (u)))]) (va_A [(h0, .inr (0, [.ref hw, .int (h)])), (hw, .inl (dS, 16, .inl (f)))] sz)) 0 0 (va_A [(h0, .inr (0, [.ref hw, .int (h)])), (hw, .inl (dS, 16, .inl (f)))] sz) := by
  refine Met.ofW (cc := cX0_write) (maxL := 3) (ret := (some .int)) (by decide) rfl ?_
  intro p e s m args below meth c s₁ B hml hv
  obtain ⟨rfl, hsz, hP, hK, hD0⟩ := hv
  have hx := B.exec
  have hb := B.bytes
  have hr := B.returns
  have hts := atoms_spec (ws := (ws_ yX0_write cX0_write 3 (some .int))) B.pre
  have hts : ∀ w ∈ lw_all, w.before _ s = true := fun w h => hts w (List.mem_cons_of_mem _ h)
  have hown : s.vm.findClass RX0 = some m.cls := findClass_of_methodNamed B.named
  have hlocks := B.notSynchronized
  have S : CallFix p m c cX0_write 3 s _ lw_all RX0 := ⟨hx, hb, hml, hown, hts⟩
  subst hsz
  have hD := hD0.self (sz := s.heap.size)
  generalize hAe : va_A [(h0, .inr (0, [.ref hw, .int (h)])), (hw, .inl (dS, 16, .inl (f)))] s.heap.size = A at hD ⊢
  have hA : ∀ q : Nat, s.heap.size ≤ q → A q := fun q h => by rw [← hAe]; exact Or.inr h
  have hS : va_S A s.heap s.heap [] := va_S.rf
  have hP : va_P D vwCl [(h0, .inr (0, [.ref hw, .int (h)])), (hw, .inl (dS, 16, .inl (f)))] s.heap := hP
  have hl := lv_entry ([.ref h0, .int x1, .int x2]) (n := 3) (Nat.le_of_ble_eq_true rfl)
  rw [lg_entry_eq]
  generalize (lg_sl ([.ref h0, .int x1, .int x2]) ++ List.replicate (3 - (lg_sl ([.ref h0, .int x1, .int x2])).length) Slot.unset).toArray = ls at hl ⊢
  have hl : lv_has ls 3 [(0, .ref h0), (1, .int x1), (2, .int x2)] := hl
  refine lv_aload_n hx hb dX0_write_0 rfl (lv_at hl 0 rfl) ?_
  refine lv_iload_n hx hb dX0_write_1 rfl (lv_at hl 1 rfl) ?_
  refine ca_X0_isWord S ⟨Nat.le_of_ble_eq_true rfl, Nat.le_of_ble_eq_true rfl⟩ (va_recv hK hP (ci := 0) (q0 := 0) rfl rfl) hl.1 (Nat.le_of_ble_eq_true rfl) dX0_write_2 ⟨Nat.zero_le _, Nat.zero_le _⟩ ?_
  refine lv_if_eq (tgt := 19) hx hb dX0_write_5 (by decide) (fun c5 => ?_) (fun c5 => ?_)
  · refine lv_iconst (v := -1) hx hb dX0_write_19 (by decide) ?_
    exact W.iret (v := (-1)) hx hb hr (fun t ht hW => ⟨⟨(-1), f, rfl, by show ((-1), f) = hm_write f x1 x2; rw [hm_write, if_pos c5], by rw [ht]; exact hP, hD⟩, hS.F ht⟩) hS.2.2 dX0_write_20 hlocks
  · refine lv_iload_n hx hb dX0_write_8 rfl (lv_at hl 2 rfl) ?_
    refine lv_if_lt (tgt := 19) hx hb dX0_write_9 (by decide) (fun c9 => ?_) (fun c9 => ?_)
    · refine lv_iconst (v := -1) hx hb dX0_write_19 (by decide) ?_
      exact W.iret (v := (-1)) hx hb hr (fun t ht hW => ⟨⟨(-1), f, rfl, by show ((-1), f) = hm_write f x1 x2; rw [hm_write, if_neg c5, if_pos c9], by rw [ht]; exact hP, hD⟩, hS.F ht⟩) hS.2.2 dX0_write_20 hlocks
    · refine lv_iload_n hx hb dX0_write_12 rfl (lv_at hl 2 rfl) ?_
      refine lv_sipush (v := 255) hx hb dX0_write_13 (by decide) ?_
      refine lv_icmp_le (tgt := 21) hx hb dX0_write_16 (by decide) (fun c16 => ?_) (fun c16 => ?_)
      · refine lv_aload_n hx hb dX0_write_21 rfl (lv_at hl 0 rfl) ?_
        refine va_get (D := D) (ci := 0) (v := .ref hw) (C := RX0) (T := TX0) (N := 2) hx hb hts in_X0 hown hK hP 0 rfl rfl 0 (by decide) (hts _ q28) (fun _ h9 => h9) rfl dX0_write_22 ?_
        refine lv_iload_n hx hb dX0_write_25 rfl (lv_at hl 1 rfl) ?_
        refine lv_aload_n hx hb dX0_write_26 rfl (lv_at hl 0 rfl) ?_
        refine lv_iload_n hx hb dX0_write_27 rfl (lv_at hl 2 rfl) ?_
        refine ca_X0_encoded S ⟨Nat.le_of_ble_eq_true rfl, Nat.le_of_ble_eq_true rfl⟩ (va_recv hK hP (ci := 0) (q0 := 0) rfl rfl) hl.1 (Nat.le_of_ble_eq_true rfl) dX0_write_28 ⟨Nat.zero_le _, Nat.zero_le _⟩ ?_
        refine lv_i2s (v := (hm_enc x2).toInt16.toInt32) hx hb dX0_write_31 rfl ?_
        refine va_sast hx hb hK hP hD hS 1 0 rfl rfl (hm_isWord_in c5) dX0_write_32 (fun H locs hP hD hS => ?_)
        have hP : va_P D vwCl [(h0, .inr (0, [.ref hw, .int (h)])), (hw, .inl (dS, 16, .inl (upd f x1.toNatClampNeg (hm_sh (hm_enc x2)))))] H := hP
        have hD : va_D A [(h0, .inr (0, [.ref hw, .int (h)])), (hw, .inl (dS, 16, .inl (upd f x1.toNatClampNeg (hm_sh (hm_enc x2)))))] := hD
        refine lv_aload_n hx hb dX0_write_33 rfl (lv_at hl 0 rfl) ?_
        refine va_get (D := D) (ci := 0) (v := .ref hw) (C := RX0) (T := TX0) (N := 2) hx hb hts in_X0 hown hK hP 0 rfl rfl 0 (by decide) (hts _ q28) (fun _ h9 => h9) rfl dX0_write_34 ?_
        refine lv_iload_n hx hb dX0_write_37 rfl (lv_at hl 1 rfl) ?_
        refine va_sald hx hb hK hP 1 0 rfl rfl (hm_isWord_in c5) dX0_write_38 ?_
        exact W.iret (v := ((upd f x1.toNatClampNeg (hm_sh (hm_enc x2))) x1.toNatClampNeg)) hx hb hr (fun t ht hW => ⟨⟨((upd f x1.toNatClampNeg (hm_sh (hm_enc x2))) x1.toNatClampNeg), upd f x1.toNatClampNeg (hm_sh (hm_enc x2)), rfl, by show (((upd f x1.toNatClampNeg (hm_sh (hm_enc x2))) x1.toNatClampNeg), upd f x1.toNatClampNeg (hm_sh (hm_enc x2))) = hm_write f x1 x2; rw [hm_write, if_neg c5, if_neg c9, if_pos c16], by rw [ht]; exact hP, hD⟩, hS.F ht⟩) hS.2.2 dX0_write_39 hlocks
      · refine lv_iconst (v := -1) hx hb dX0_write_19 (by decide) ?_
        exact W.iret (v := (-1)) hx hb hr (fun t ht hW => ⟨⟨(-1), f, rfl, by show ((-1), f) = hm_write f x1 x2; rw [hm_write, if_neg c5, if_neg c9, if_neg c16], by rw [ht]; exact hP, hD⟩, hS.F ht⟩) hS.2.2 dX0_write_20 hlocks
set_option maxHeartbeats 4000000 in
set_option maxRecDepth 100000 in
theorem mt_X0_flip (l : Launch) (D : va_G) (h0 hw : Nat) (dS : ClassId) (f : Nat → Int32) (h : Int32) (sz : Nat) (x1 : Int32) (x2 : Int32) : Met l yX0_flip (ws_ yX0_flip cX0_flip 3 (some .int)) ({ frames := 1, cells := 0, slots := 0, locals := 21 }) (va_Pc [.ref h0, .int x1, .int x2] (fun U => U.heap.size = sz ∧ va_P D vwCl [(h0, .inr (0, [.ref hw, .int (h)])), (hw, .inl (dS, 16, .inl (f)))] U.heap ∧ va_K D vwCl [(dS, .short)] U ∧ va_D (fun _ => True) [(h0, .inr (0, [.ref hw, .int (h)])), (hw, .inl (dS, 16, .inl (f)))])) (va_Qi (fun (r : Int32) (u : Nat → Int32) => (r, u) = hm_flip f x1 x2) (fun u t => va_P D vwCl [(h0, .inr (0, [.ref hw, .int (h)])), (hw, .inl (dS, 16, .inl (u)))] t.heap ∧ va_D (va_A [(h0, .inr (0, [.ref hw, .int (h)])), (hw, .inl (dS, 16, .inl (f)))] sz) [(h0, .inr (0, [.ref hw, .int (h)])), (hw, .inl (dS, 16, .inl (u)))]) (va_A [(h0, .inr (0, [.ref hw, .int (h)])), (hw, .inl (dS, 16, .inl (f)))] sz)) 0 0 (va_A [(h0, .inr (0, [.ref hw, .int (h)])), (hw, .inl (dS, 16, .inl (f)))] sz) := by
  refine Met.ofW (cc := cX0_flip) (maxL := 3) (ret := (some .int)) (by decide) rfl ?_
  intro p e s m args below meth c s₁ B hml hv
  obtain ⟨rfl, hsz, hP, hK, hD0⟩ := hv
  have hx := B.exec
  have hb := B.bytes
  have hr := B.returns
  have hts := atoms_spec (ws := (ws_ yX0_flip cX0_flip 3 (some .int))) B.pre
  have hts : ∀ w ∈ lw_all, w.before _ s = true := fun w h => hts w (List.mem_cons_of_mem _ h)
  have hown : s.vm.findClass RX0 = some m.cls := findClass_of_methodNamed B.named
  have hlocks := B.notSynchronized
  have S : CallFix p m c cX0_flip 3 s _ lw_all RX0 := ⟨hx, hb, hml, hown, hts⟩
  subst hsz
  have hD := hD0.self (sz := s.heap.size)
  generalize hAe : va_A [(h0, .inr (0, [.ref hw, .int (h)])), (hw, .inl (dS, 16, .inl (f)))] s.heap.size = A at hD ⊢
  have hA : ∀ q : Nat, s.heap.size ≤ q → A q := fun q h => by rw [← hAe]; exact Or.inr h
  have hS : va_S A s.heap s.heap [] := va_S.rf
  have hP : va_P D vwCl [(h0, .inr (0, [.ref hw, .int (h)])), (hw, .inl (dS, 16, .inl (f)))] s.heap := hP
  have hl := lv_entry ([.ref h0, .int x1, .int x2]) (n := 3) (Nat.le_of_ble_eq_true rfl)
  rw [lg_entry_eq]
  generalize (lg_sl ([.ref h0, .int x1, .int x2]) ++ List.replicate (3 - (lg_sl ([.ref h0, .int x1, .int x2])).length) Slot.unset).toArray = ls at hl ⊢
  have hl : lv_has ls 3 [(0, .ref h0), (1, .int x1), (2, .int x2)] := hl
  refine lv_aload_n hx hb dX0_flip_0 rfl (lv_at hl 0 rfl) ?_
  refine lv_iload_n hx hb dX0_flip_1 rfl (lv_at hl 1 rfl) ?_
  refine ca_X0_isWord S ⟨Nat.le_of_ble_eq_true rfl, Nat.le_of_ble_eq_true rfl⟩ (va_recv hK hP (ci := 0) (q0 := 0) rfl rfl) hl.1 (Nat.le_of_ble_eq_true rfl) dX0_flip_2 ⟨Nat.zero_le _, Nat.zero_le _⟩ ?_
  refine lv_if_eq (tgt := 18) hx hb dX0_flip_5 (by decide) (fun c5 => ?_) (fun c5 => ?_)
  · refine lv_iconst (v := -1) hx hb dX0_flip_18 (by decide) ?_
    exact W.iret (v := (-1)) hx hb hr (fun t ht hW => ⟨⟨(-1), f, rfl, by show ((-1), f) = hm_flip f x1 x2; rw [hm_flip, if_pos c5], by rw [ht]; exact hP, hD⟩, hS.F ht⟩) hS.2.2 dX0_flip_19 hlocks
  · refine lv_iload_n hx hb dX0_flip_8 rfl (lv_at hl 2 rfl) ?_
    refine lv_if_lt (tgt := 18) hx hb dX0_flip_9 (by decide) (fun c9 => ?_) (fun c9 => ?_)
    · refine lv_iconst (v := -1) hx hb dX0_flip_18 (by decide) ?_
      exact W.iret (v := (-1)) hx hb hr (fun t ht hW => ⟨⟨(-1), f, rfl, by show ((-1), f) = hm_flip f x1 x2; rw [hm_flip, if_neg c5, if_pos c9], by rw [ht]; exact hP, hD⟩, hS.F ht⟩) hS.2.2 dX0_flip_19 hlocks
    · refine lv_iload_n hx hb dX0_flip_12 rfl (lv_at hl 2 rfl) ?_
      refine lv_bipush (v := 12) hx hb dX0_flip_13 (by decide) ?_
      refine lv_icmp_le (tgt := 20) hx hb dX0_flip_15 (by decide) (fun c15 => ?_) (fun c15 => ?_)
      · refine lv_aload_n hx hb dX0_flip_20 rfl (lv_at hl 0 rfl) ?_
        refine va_get (D := D) (ci := 0) (v := .ref hw) (C := RX0) (T := TX0) (N := 2) hx hb hts in_X0 hown hK hP 0 rfl rfl 0 (by decide) (hts _ q28) (fun _ h9 => h9) rfl dX0_flip_21 ?_
        refine lv_iload_n hx hb dX0_flip_24 rfl (lv_at hl 1 rfl) ?_
        refine lv_dup2_11 hx hb dX0_flip_25 rfl rfl ?_
        refine va_sald hx hb hK hP 1 0 rfl rfl (hm_isWord_in c5) dX0_flip_26 ?_
        refine lv_iconst (v := 1) hx hb dX0_flip_27 (by decide) ?_
        refine lv_iload_n hx hb dX0_flip_28 rfl (lv_at hl 2 rfl) ?_
        refine lv_ishl hx hb dX0_flip_29 ?_
        refine lv_ixor hx hb dX0_flip_30 ?_
        refine lv_i2s (v := ((f x1.toNatClampNeg) ^^^ ((1 : Int32) <<< (x2 &&& 31))).toInt16.toInt32) hx hb dX0_flip_31 rfl ?_
        refine va_sast hx hb hK hP hD hS 1 0 rfl rfl (hm_isWord_in c5) dX0_flip_32 (fun H locs hP hD hS => ?_)
        have hP : va_P D vwCl [(h0, .inr (0, [.ref hw, .int (h)])), (hw, .inl (dS, 16, .inl (upd f x1.toNatClampNeg (hm_sh ((f x1.toNatClampNeg) ^^^ ((1 : Int32) <<< (x2 &&& 31)))))))] H := hP
        have hD : va_D A [(h0, .inr (0, [.ref hw, .int (h)])), (hw, .inl (dS, 16, .inl (upd f x1.toNatClampNeg (hm_sh ((f x1.toNatClampNeg) ^^^ ((1 : Int32) <<< (x2 &&& 31)))))))] := hD
        refine lv_aload_n hx hb dX0_flip_33 rfl (lv_at hl 0 rfl) ?_
        refine va_get (D := D) (ci := 0) (v := .ref hw) (C := RX0) (T := TX0) (N := 2) hx hb hts in_X0 hown hK hP 0 rfl rfl 0 (by decide) (hts _ q28) (fun _ h9 => h9) rfl dX0_flip_34 ?_
        refine lv_iload_n hx hb dX0_flip_37 rfl (lv_at hl 1 rfl) ?_
        refine va_sald hx hb hK hP 1 0 rfl rfl (hm_isWord_in c5) dX0_flip_38 ?_
        exact W.iret (v := ((upd f x1.toNatClampNeg (hm_sh ((f x1.toNatClampNeg) ^^^ ((1 : Int32) <<< (x2 &&& 31))))) x1.toNatClampNeg)) hx hb hr (fun t ht hW => ⟨⟨((upd f x1.toNatClampNeg (hm_sh ((f x1.toNatClampNeg) ^^^ ((1 : Int32) <<< (x2 &&& 31))))) x1.toNatClampNeg), upd f x1.toNatClampNeg (hm_sh ((f x1.toNatClampNeg) ^^^ ((1 : Int32) <<< (x2 &&& 31)))), rfl, by show (((upd f x1.toNatClampNeg (hm_sh ((f x1.toNatClampNeg) ^^^ ((1 : Int32) <<< (x2 &&& 31))))) x1.toNatClampNeg), upd f x1.toNatClampNeg (hm_sh ((f x1.toNatClampNeg) ^^^ ((1 : Int32) <<< (x2 &&& 31))))) = hm_flip f x1 x2; rw [hm_flip, if_neg c5, if_neg c9, if_pos c15], by rw [ht]; exact hP, hD⟩, hS.F ht⟩) hS.2.2 dX0_flip_39 hlocks
      · refine lv_iconst (v := -1) hx hb dX0_flip_18 (by decide) ?_
        exact W.iret (v := (-1)) hx hb hr (fun t ht hW => ⟨⟨(-1), f, rfl, by show ((-1), f) = hm_flip f x1 x2; rw [hm_flip, if_neg c5, if_neg c9, if_neg c15], by rw [ht]; exact hP, hD⟩, hS.F ht⟩) hS.2.2 dX0_flip_19 hlocks
set_option maxHeartbeats 4000000 in
set_option maxRecDepth 100000 in
theorem mt_X0_repair (l : Launch) (D : va_G) (h0 hw : Nat) (dS : ClassId) (f : Nat → Int32) (h : Int32) (sz : Nat) (x1 : Int32) : Met l yX0_repair (ws_ yX0_repair cX0_repair 3 (some .int)) ({ frames := 3, cells := 0, slots := 0, locals := 68 }) (va_Pc [.ref h0, .int x1] (fun U => U.heap.size = sz ∧ va_P D vwCl [(h0, .inr (0, [.ref hw, .int (h)])), (hw, .inl (dS, 16, .inl (f)))] U.heap ∧ va_K D vwCl [(dS, .short)] U ∧ va_D (fun _ => True) [(h0, .inr (0, [.ref hw, .int (h)])), (hw, .inl (dS, 16, .inl (f)))])) (va_Qi (fun (r : Int32) (u : Nat → Int32) => (r, u) = hm_rep f x1) (fun u t => va_P D vwCl [(h0, .inr (0, [.ref hw, .int (h)])), (hw, .inl (dS, 16, .inl (u)))] t.heap ∧ va_D (va_A [(h0, .inr (0, [.ref hw, .int (h)])), (hw, .inl (dS, 16, .inl (f)))] sz) [(h0, .inr (0, [.ref hw, .int (h)])), (hw, .inl (dS, 16, .inl (u)))]) (va_A [(h0, .inr (0, [.ref hw, .int (h)])), (hw, .inl (dS, 16, .inl (f)))] sz)) 0 0 (va_A [(h0, .inr (0, [.ref hw, .int (h)])), (hw, .inl (dS, 16, .inl (f)))] sz) := by
  refine Met.ofW (cc := cX0_repair) (maxL := 3) (ret := (some .int)) (by decide) rfl ?_
  intro p e s m args below meth c s₁ B hml hv
  obtain ⟨rfl, hsz, hP, hK, hD0⟩ := hv
  have hx := B.exec
  have hb := B.bytes
  have hr := B.returns
  have hts := atoms_spec (ws := (ws_ yX0_repair cX0_repair 3 (some .int))) B.pre
  have hts : ∀ w ∈ lw_all, w.before _ s = true := fun w h => hts w (List.mem_cons_of_mem _ h)
  have hown : s.vm.findClass RX0 = some m.cls := findClass_of_methodNamed B.named
  have hlocks := B.notSynchronized
  have S : CallFix p m c cX0_repair 3 s _ lw_all RX0 := ⟨hx, hb, hml, hown, hts⟩
  subst hsz
  have hD := hD0.self (sz := s.heap.size)
  generalize hAe : va_A [(h0, .inr (0, [.ref hw, .int (h)])), (hw, .inl (dS, 16, .inl (f)))] s.heap.size = A at hD ⊢
  have hA : ∀ q : Nat, s.heap.size ≤ q → A q := fun q h => by rw [← hAe]; exact Or.inr h
  have hS : va_S A s.heap s.heap [] := va_S.rf
  have hP : va_P D vwCl [(h0, .inr (0, [.ref hw, .int (h)])), (hw, .inl (dS, 16, .inl (f)))] s.heap := hP
  have hl := lv_entry ([.ref h0, .int x1]) (n := 3) (Nat.le_of_ble_eq_true rfl)
  rw [lg_entry_eq]
  generalize (lg_sl ([.ref h0, .int x1]) ++ List.replicate (3 - (lg_sl ([.ref h0, .int x1])).length) Slot.unset).toArray = ls at hl ⊢
  have hl : lv_has ls 3 [(0, .ref h0), (1, .int x1)] := hl
  refine lv_aload_n hx hb dX0_repair_0 rfl (lv_at hl 0 rfl) ?_
  refine lv_iload_n hx hb dX0_repair_1 rfl (lv_at hl 1 rfl) ?_
  refine ca_X0_isWord S ⟨Nat.le_of_ble_eq_true rfl, Nat.le_of_ble_eq_true rfl⟩ (va_recv hK hP (ci := 0) (q0 := 0) rfl rfl) hl.1 (Nat.le_of_ble_eq_true rfl) dX0_repair_2 ⟨Nat.zero_le _, Nat.zero_le _⟩ ?_
  refine lv_if_ne (tgt := 10) hx hb dX0_repair_5 (by decide) (fun c5 => ?_) (fun c5 => ?_)
  · refine lv_aload_n hx hb dX0_repair_10 rfl (lv_at hl 0 rfl) ?_
    refine lv_aload_n hx hb dX0_repair_11 rfl (lv_at hl 0 rfl) ?_
    refine va_get (D := D) (ci := 0) (v := .ref hw) (C := RX0) (T := TX0) (N := 2) hx hb hts in_X0 hown hK hP 0 rfl rfl 0 (by decide) (hts _ q28) (fun _ h9 => h9) rfl dX0_repair_12 ?_
    refine lv_iload_n hx hb dX0_repair_15 rfl (lv_at hl 1 rfl) ?_
    refine va_sald hx hb hK hP 1 0 rfl rfl (hm_isWord_in c5) dX0_repair_16 ?_
    refine ca_X0_wrongBit S ⟨Nat.le_of_ble_eq_true rfl, Nat.le_of_ble_eq_true rfl⟩ (va_recv hK hP (ci := 0) (q0 := 0) rfl rfl) hl.1 (Nat.le_of_ble_eq_true rfl) dX0_repair_17 ⟨Nat.zero_le _, Nat.zero_le _⟩ ?_
    refine lv_istore_n (lv' := [(2, .int (hm_wrong (f x1.toNatClampNeg))), (0, .ref h0), (1, .int x1)]) hx hb dX0_repair_20 rfl hl (by decide) rfl (fun ls hl => ?_)
    refine lv_iload_n hx hb dX0_repair_21 rfl (lv_at hl 0 rfl) ?_
    refine lv_if_lt (tgt := 43) hx hb dX0_repair_22 (by decide) (fun c22 => ?_) (fun c22 => ?_)
    · refine lv_iload_n hx hb dX0_repair_43 rfl (lv_at hl 0 rfl) ?_
      exact W.iret (v := (hm_wrong (f x1.toNatClampNeg))) hx hb hr (fun t ht hW => ⟨⟨(hm_wrong (f x1.toNatClampNeg)), f, rfl, by show ((hm_wrong (f x1.toNatClampNeg)), f) = hm_rep f x1; rw [hm_rep, if_neg c5, if_pos c22], by rw [ht]; exact hP, hD⟩, hS.F ht⟩) hS.2.2 dX0_repair_44 hlocks
    · refine lv_aload_n hx hb dX0_repair_25 rfl (lv_at hl 1 rfl) ?_
      refine va_get (D := D) (ci := 0) (v := .ref hw) (C := RX0) (T := TX0) (N := 2) hx hb hts in_X0 hown hK hP 0 rfl rfl 0 (by decide) (hts _ q28) (fun _ h9 => h9) rfl dX0_repair_26 ?_
      refine lv_iload_n hx hb dX0_repair_29 rfl (lv_at hl 2 rfl) ?_
      refine lv_aload_n hx hb dX0_repair_30 rfl (lv_at hl 1 rfl) ?_
      refine lv_aload_n hx hb dX0_repair_31 rfl (lv_at hl 1 rfl) ?_
      refine va_get (D := D) (ci := 0) (v := .ref hw) (C := RX0) (T := TX0) (N := 2) hx hb hts in_X0 hown hK hP 0 rfl rfl 0 (by decide) (hts _ q28) (fun _ h9 => h9) rfl dX0_repair_32 ?_
      refine lv_iload_n hx hb dX0_repair_35 rfl (lv_at hl 2 rfl) ?_
      refine va_sald hx hb hK hP 1 0 rfl rfl (hm_isWord_in c5) dX0_repair_36 ?_
      refine lv_iload_n hx hb dX0_repair_37 rfl (lv_at hl 0 rfl) ?_
      refine ca_X0_mended S ⟨Nat.le_of_ble_eq_true rfl, Nat.le_of_ble_eq_true rfl⟩ (va_recv hK hP (ci := 0) (q0 := 0) rfl rfl) hl.1 (Nat.le_of_ble_eq_true rfl) dX0_repair_38 ⟨Nat.zero_le _, Nat.zero_le _⟩ ?_
      refine lv_i2s (v := (hm_mend (f x1.toNatClampNeg) (hm_wrong (f x1.toNatClampNeg))).toInt16.toInt32) hx hb dX0_repair_41 rfl ?_
      refine va_sast hx hb hK hP hD hS 1 0 rfl rfl (hm_isWord_in c5) dX0_repair_42 (fun H locs hP hD hS => ?_)
      have hP : va_P D vwCl [(h0, .inr (0, [.ref hw, .int (h)])), (hw, .inl (dS, 16, .inl (upd f x1.toNatClampNeg (hm_sh (hm_mend (f x1.toNatClampNeg) (hm_wrong (f x1.toNatClampNeg)))))))] H := hP
      have hD : va_D A [(h0, .inr (0, [.ref hw, .int (h)])), (hw, .inl (dS, 16, .inl (upd f x1.toNatClampNeg (hm_sh (hm_mend (f x1.toNatClampNeg) (hm_wrong (f x1.toNatClampNeg)))))))] := hD
      refine lv_iload_n hx hb dX0_repair_43 rfl (lv_at hl 0 rfl) ?_
      exact W.iret (v := (hm_wrong (f x1.toNatClampNeg))) hx hb hr (fun t ht hW => ⟨⟨(hm_wrong (f x1.toNatClampNeg)), upd f x1.toNatClampNeg (hm_sh (hm_mend (f x1.toNatClampNeg) (hm_wrong (f x1.toNatClampNeg)))), rfl, by show ((hm_wrong (f x1.toNatClampNeg)), upd f x1.toNatClampNeg (hm_sh (hm_mend (f x1.toNatClampNeg) (hm_wrong (f x1.toNatClampNeg))))) = hm_rep f x1; rw [hm_rep, if_neg c5, if_neg c22], by rw [ht]; exact hP, hD⟩, hS.F ht⟩) hS.2.2 dX0_repair_44 hlocks
  · refine lv_iconst (v := -1) hx hb dX0_repair_8 (by decide) ?_
    exact W.iret (v := (-1)) hx hb hr (fun t ht hW => ⟨⟨(-1), f, rfl, by show ((-1), f) = hm_rep f x1; rw [hm_rep, if_pos c5], by rw [ht]; exact hP, hD⟩, hS.F ht⟩) hS.2.2 dX0_repair_9 hlocks
set_option maxHeartbeats 4000000 in
theorem ca_X0_repair {p : Program} {l : Launch} {e : Env} {R : Room} {s : State} {m : MethodId} {args : Array Value} {below : List Frame} {meth : Method} {c : Code} {H : Heap} {locs : List Loc} {cells slots : Nat} {Q : State → Prop} {cc : ByteArray} {nL pc : Nat} {ls : Array Slot} {rest : List Value} {x1 : Int32} {D : va_G} {h0 hw : Nat} {dS : ClassId} {f : Nat → Int32} {h : Int32} {A : Nat → Prop} {H0 : Heap} (S : CallFix p m c cc nL s args lw_all RX0) (hR : 3 + 1 ≤ R.frames ∧ 8 + (3 + 11) + 68 ≤ R.locals) (hK : va_K D vwCl [(dS, .short)] s) (hP : va_P D vwCl [(h0, .inr (0, [.ref hw, .int (h)])), (hw, .inl (dS, 16, .inl (f)))] H) (hD : va_D A [(h0, .inr (0, [.ref hw, .int (h)])), (hw, .inl (dS, 16, .inl (f)))]) (hS : va_S A H0 H locs) (hA : ∀ q : Nat, H0.size ≤ q → A q) (hsize : ls.size = nL) (hW : (rest.map fun v => v.category).sum ≤ 8) (hdg : decode cc pc = .ok (.invokevirtual 35, 3)) (hf : cells ≤ R.cells ∧ slots ≤ R.slots) (kk : ∀ (H : Heap) (locs : List Loc), va_P D vwCl [(h0, .inr (0, [.ref hw, .int (h)])), (hw, .inl (dS, 16, .inl ((hm_rep f x1).2)))] H → va_D A [(h0, .inr (0, [.ref hw, .int (h)])), (hw, .inl (dS, 16, .inl ((hm_rep f x1).2)))] → va_S A H0 H locs → W p l e R s m args below meth c H locs cells slots Q (F0 m (pc + 3) ls (.int ((hm_rep f x1).1) :: rest))) : W p l e R s m args below meth c H locs cells slots Q (F0 m pc ls (.int x1 :: .ref h0 :: rest)) := by
  have hF := va_free (wc := [(h0, .inr (0, [.ref hw, .int (h)])), (hw, .inl (dS, 16, .inl (f)))]) hD hS hA [0, 1] rfl
  refine va_calli (va_runV (As := [.int x1]) (rest := rest) S (mt_X0_repair l D h0 hw dS f h H.size x1) (cwV 1 S.2.2.2.2 (lw_V q92 q85 q86 q18 q87) rfl rfl rfl (by decide +kernel) hR) ⟨fun a U g mk q => by obtain ⟨q0, q1, qP, qK, qD⟩ := q; exact ⟨q0, q1, qP, va_K.moved (u := U) (U := U.calling g mk a) (Vm.Alike.refl U.vm) qK, qD⟩, va_recv hK hP (ci := 0) (q0 := 0) rfl rfl, fun U hU hW => ⟨rfl, by rw [hU], by rw [hU]; exact hP, va_K.moved hW.alike hK, hD.weaken (fun _ _ _ _ => trivial)⟩⟩ rfl rfl hsize rfl (lv_room hW) hdg hf) hS (fun q _ h => hF q h) hF (fun r u t H1 locs1 ht hvm hw hB hz hk hS1 => ?_)
  obtain ⟨hP1, hD1⟩ := hB
  rw [ht] at hP1
  rw [← hw] at kk
  exact kk H1 locs1 hP1 (hD1.weaken (fun _ q _ h => hF q.1 h)) hS1
set_option maxHeartbeats 4000000 in
set_option maxRecDepth 100000 in
theorem mt_X0_scrub (l : Launch) (D : va_G) (h0 hw : Nat) (dS : ClassId) (f : Nat → Int32) (h : Int32) (sz : Nat) (x1 : Int32) : Met l yX0_scrub (ws_ yX0_scrub cX0_scrub 6 (some .int)) ({ frames := 4, cells := 0, slots := 0, locals := 90 }) (va_Pc [.ref h0, .int x1] (fun U => U.heap.size = sz ∧ va_P D vwCl [(h0, .inr (0, [.ref hw, .int (h)])), (hw, .inl (dS, 16, .inl (f)))] U.heap ∧ va_K D vwCl [(dS, .short)] U ∧ va_D (fun _ => True) [(h0, .inr (0, [.ref hw, .int (h)])), (hw, .inl (dS, 16, .inl (f)))])) (va_Qi (fun (r : Int32) (u : (Nat → Int32) × Int32) => (r, u) = hm_scr f h x1) (fun u t => va_P D vwCl [(h0, .inr (0, [.ref hw, .int (u.2)])), (hw, .inl (dS, 16, .inl (u.1)))] t.heap ∧ va_D (va_A [(h0, .inr (0, [.ref hw, .int (h)])), (hw, .inl (dS, 16, .inl (f)))] sz) [(h0, .inr (0, [.ref hw, .int (u.2)])), (hw, .inl (dS, 16, .inl (u.1)))]) (va_A [(h0, .inr (0, [.ref hw, .int (h)])), (hw, .inl (dS, 16, .inl (f)))] sz)) 0 0 (va_A [(h0, .inr (0, [.ref hw, .int (h)])), (hw, .inl (dS, 16, .inl (f)))] sz) := by
  refine Met.ofW (cc := cX0_scrub) (maxL := 6) (ret := (some .int)) (by decide) rfl ?_
  intro p e s m args below meth c s₁ B hml hv
  obtain ⟨rfl, hsz, hP, hK, hD0⟩ := hv
  have hx := B.exec
  have hb := B.bytes
  have hr := B.returns
  have hts := atoms_spec (ws := (ws_ yX0_scrub cX0_scrub 6 (some .int))) B.pre
  have hts : ∀ w ∈ lw_all, w.before _ s = true := fun w h => hts w (List.mem_cons_of_mem _ h)
  have hown : s.vm.findClass RX0 = some m.cls := findClass_of_methodNamed B.named
  have hlocks := B.notSynchronized
  have S : CallFix p m c cX0_scrub 6 s _ lw_all RX0 := ⟨hx, hb, hml, hown, hts⟩
  subst hsz
  have hD := hD0.self (sz := s.heap.size)
  generalize hAe : va_A [(h0, .inr (0, [.ref hw, .int (h)])), (hw, .inl (dS, 16, .inl (f)))] s.heap.size = A at hD ⊢
  have hA : ∀ q : Nat, s.heap.size ≤ q → A q := fun q h => by rw [← hAe]; exact Or.inr h
  have hS : va_S A s.heap s.heap [] := va_S.rf
  have hP : va_P D vwCl [(h0, .inr (0, [.ref hw, .int (h)])), (hw, .inl (dS, 16, .inl (f)))] s.heap := hP
  have hl := lv_entry ([.ref h0, .int x1]) (n := 6) (Nat.le_of_ble_eq_true rfl)
  rw [lg_entry_eq]
  generalize (lg_sl ([.ref h0, .int x1]) ++ List.replicate (6 - (lg_sl ([.ref h0, .int x1])).length) Slot.unset).toArray = ls at hl ⊢
  have hl : lv_has ls 6 [(0, .ref h0), (1, .int x1)] := hl
  refine lv_iload_n hx hb dX0_scrub_0 rfl (lv_at hl 1 rfl) ?_
  have j21 : ∀ (y21 : Int32), y21 = (hm_left x1) → ∀ ls : Array Slot, lv_has ls 6 [(2, .int y21), (0, .ref h0), (1, .int x1)] → W p l e (headSpec (ws_ yX0_scrub cX0_scrub 6 (some .int)) ({ frames := 4, cells := 0, slots := 0, locals := 90 })).room s m ([.ref h0, .int x1] : List Value).toArray below meth c s.heap [] 0 0 (MQ below (va_Qi (fun (r : Int32) (u : (Nat → Int32) × Int32) => (r, u) = hm_scr f h x1) (fun u t => va_P D vwCl [(h0, .inr (0, [.ref hw, .int (u.2)])), (hw, .inl (dS, 16, .inl (u.1)))] t.heap ∧ va_D A [(h0, .inr (0, [.ref hw, .int (u.2)])), (hw, .inl (dS, 16, .inl (u.1)))]) A) ([.ref h0, .int x1] : List Value).toArray s 0 0 A) (F0 m 21 ls []) := by
    intro y21 hy21 ls hl
    subst hy21
    refine lv_iconst (v := 0) hx hb dX0_scrub_21 (by decide) ?_
    refine lv_istore_n (lv' := [(3, .int 0), (2, .int (hm_left x1)), (0, .ref h0), (1, .int x1)]) hx hb dX0_scrub_22 rfl hl (by decide) rfl (fun ls hl => ?_)
    refine lv_iconst (v := 0) hx hb dX0_scrub_23 (by decide) ?_
    refine lv_istore (lv' := [(4, .int 0), (3, .int 0), (2, .int (hm_left x1)), (0, .ref h0), (1, .int x1)]) hx hb dX0_scrub_24 hl (by decide) rfl (fun ls hl => ?_)
    obtain ⟨T26, hT26⟩ : ∃ T, T = hm_scrL (hm_left x1).toNatClampNeg f h 0 := ⟨_, rfl⟩
    have lp26 : ∀ (n26 : Nat) (x3_26 x4_26 : Int32) (f_26 : Nat → Int32) (h_26 : Int32), n26 ≤ (hm_left x1).toNatClampNeg → x4_26 = nI ((hm_left x1).toNatClampNeg - n26) → hm_scrL n26 f_26 h_26 x3_26 = T26 → ∀ (H : Heap) (locs : List Loc), va_P D vwCl [(h0, .inr (0, [.ref hw, .int (h_26)])), (hw, .inl (dS, 16, .inl (f_26)))] H → va_D A [(h0, .inr (0, [.ref hw, .int (h_26)])), (hw, .inl (dS, 16, .inl (f_26)))] → va_S A s.heap H locs → ∀ ls : Array Slot, lv_has ls 6 [(4, .int x4_26), (3, .int x3_26), (2, .int (hm_left x1)), (0, .ref h0), (1, .int x1)] → W p l e (headSpec (ws_ yX0_scrub cX0_scrub 6 (some .int)) ({ frames := 4, cells := 0, slots := 0, locals := 90 })).room s m ([.ref h0, .int x1] : List Value).toArray below meth c H locs 0 0 (MQ below (va_Qi (fun (r : Int32) (u : (Nat → Int32) × Int32) => (r, u) = hm_scr f h x1) (fun u t => va_P D vwCl [(h0, .inr (0, [.ref hw, .int (u.2)])), (hw, .inl (dS, 16, .inl (u.1)))] t.heap ∧ va_D A [(h0, .inr (0, [.ref hw, .int (u.2)])), (hw, .inl (dS, 16, .inl (u.1)))]) A) ([.ref h0, .int x1] : List Value).toArray s 0 0 A) (F0 m 26 ls []) := by
      intro n26
      induction n26 with
      | zero =>
        intro x3_26 x4_26 f_26 h_26 hn26 e26 hI26 H locs hP hD hS ls hl
        refine lv_iload hx hb dX0_scrub_26 (lv_at hl 0 rfl) ?_
        refine lv_iload_n hx hb dX0_scrub_28 rfl (lv_at hl 2 rfl) ?_
        refine lv_icmp_ge (tgt := 76) hx hb dX0_scrub_29 (by decide) (fun c29 => ?_) (fun c29 => ?_)
        · refine lv_iload_n hx hb dX0_scrub_76 rfl (lv_at hl 1 rfl) ?_
          exact W.iret (v := x3_26) hx hb hr (fun t ht hW => ⟨⟨x3_26, (f_26, h_26), rfl, by have h9 : (x3_26, (f_26, h_26)) = T26 := hI26; exact h9.trans (hT26.trans (by rw [hm_scr])), by rw [ht]; exact hP, hD⟩, hS.F ht⟩) hS.2.2 dX0_scrub_77 hlocks
        · exact absurd (hm_ge0 (hm_left_nI x1) e26) c29
      | succ n26 ih26 =>
        intro x3_26 x4_26 f_26 h_26 hn26 e26 hI26 H locs hP hD hS ls hl
        refine lv_iload hx hb dX0_scrub_26 (lv_at hl 0 rfl) ?_
        refine lv_iload_n hx hb dX0_scrub_28 rfl (lv_at hl 2 rfl) ?_
        refine lv_icmp_ge (tgt := 76) hx hb dX0_scrub_29 (by decide) (fun c29 => ?_) (fun c29 => ?_)
        · exact absurd c29 (hm_geS (hm_left_nI x1) (hm_left_lt x1) hn26 e26)
        · refine lv_aload_n hx hb dX0_scrub_32 rfl (lv_at hl 3 rfl) ?_
          refine lv_aload_n hx hb dX0_scrub_33 rfl (lv_at hl 3 rfl) ?_
          refine va_get (D := D) (ci := 0) (v := .int h_26) (C := RX0) (T := TX0) (N := 2) hx hb hts in_X0 hown hK hP 0 rfl rfl 1 (by decide) (hts _ q29) (fun _ h9 => h9) rfl dX0_scrub_34 ?_
          refine ca_X0_repair S ⟨Nat.le_of_ble_eq_true rfl, Nat.le_of_ble_eq_true rfl⟩ hK hP hD hS hA hl.1 (Nat.le_of_ble_eq_true rfl) dX0_scrub_37 ⟨Nat.zero_le _, Nat.zero_le _⟩ (fun H locs hP hD hS => ?_)
          have hP : va_P D vwCl [(h0, .inr (0, [.ref hw, .int (h_26)])), (hw, .inl (dS, 16, .inl ((hm_rep f_26 h_26).2)))] H := hP
          have hD : va_D A [(h0, .inr (0, [.ref hw, .int (h_26)])), (hw, .inl (dS, 16, .inl ((hm_rep f_26 h_26).2)))] := hD
          refine lv_istore (lv' := [(5, .int (hm_rep f_26 h_26).1), (4, .int x4_26), (3, .int x3_26), (2, .int (hm_left x1)), (0, .ref h0), (1, .int x1)]) hx hb dX0_scrub_40 hl (by decide) rfl (fun ls hl => ?_)
          refine lv_iload hx hb dX0_scrub_42 (lv_at hl 0 rfl) ?_
          refine lv_if_lt (tgt := 57) hx hb dX0_scrub_44 (by decide) (fun c44 => ?_) (fun c44 => ?_)
          · refine lv_aload_n hx hb dX0_scrub_57 rfl (lv_at hl 4 rfl) ?_
            refine lv_aload_n hx hb dX0_scrub_58 rfl (lv_at hl 4 rfl) ?_
            refine va_get (D := D) (ci := 0) (v := .int h_26) (C := RX0) (T := TX0) (N := 2) hx hb hts in_X0 hown hK hP 0 rfl rfl 1 (by decide) (hts _ q29) (fun _ h9 => h9) rfl dX0_scrub_59 ?_
            refine lv_iconst (v := 1) hx hb dX0_scrub_62 (by decide) ?_
            refine lv_iadd hx hb dX0_scrub_63 ?_
            refine lv_bipush (v := 15) hx hb dX0_scrub_64 (by decide) ?_
            refine lv_iand hx hb dX0_scrub_66 ?_
            refine va_put (D := D) (ci := 0) (v := .int ((h_26 + 1) &&& 15)) (ty := .int) (C := RX0) (T := TX0) (N := 2) hx hb hts in_X0 tyX0 tyX0_ok nmX0 hown hK hP hD hS 0 rfl rfl 1 (by decide) (hts _ q29) (fun _ h9 => h9) rfl (by decide +kernel) rfl rfl (Nat.le_of_ble_eq_true rfl) dX0_scrub_67 (fun H locs hP hD hS => ?_)
            have hP : va_P D vwCl [(h0, .inr (0, [.ref hw, .int (((h_26 + 1) &&& 15))])), (hw, .inl (dS, 16, .inl ((hm_rep f_26 h_26).2)))] H := hP
            have hD : va_D A [(h0, .inr (0, [.ref hw, .int (((h_26 + 1) &&& 15))])), (hw, .inl (dS, 16, .inl ((hm_rep f_26 h_26).2)))] := hD
            refine lv_iinc (v := (x4_26 + 1)) (lv' := [(4, .int (x4_26 + 1)), (5, .int (hm_rep f_26 h_26).1), (3, .int x3_26), (2, .int (hm_left x1)), (0, .ref h0), (1, .int x1)]) hx hb dX0_scrub_70 hl (k := 1) rfl rfl (by decide) rfl (fun ls hl => ?_)
            refine lv_goto (tgt := 26) hx hb dX0_scrub_73 (by decide) ?_
            exact ih26 x3_26 (x4_26 + 1) ((hm_rep f_26 h_26).2) (((h_26 + 1) &&& 15)) (Nat.le_of_succ_le hn26) (hm_nx hn26 e26) (by rw [hm_scrL, if_pos c44] at hI26; exact hI26) _ _ hP hD hS ls (lv_sub hl [0, 2, 3, 4, 5] rfl)
          · refine lv_iload hx hb dX0_scrub_47 (lv_at hl 0 rfl) ?_
            refine lv_bipush (v := 13) hx hb dX0_scrub_49 (by decide) ?_
            refine lv_icmp_ge (tgt := 57) hx hb dX0_scrub_51 (by decide) (fun c51 => ?_) (fun c51 => ?_)
            · refine lv_aload_n hx hb dX0_scrub_57 rfl (lv_at hl 4 rfl) ?_
              refine lv_aload_n hx hb dX0_scrub_58 rfl (lv_at hl 4 rfl) ?_
              refine va_get (D := D) (ci := 0) (v := .int h_26) (C := RX0) (T := TX0) (N := 2) hx hb hts in_X0 hown hK hP 0 rfl rfl 1 (by decide) (hts _ q29) (fun _ h9 => h9) rfl dX0_scrub_59 ?_
              refine lv_iconst (v := 1) hx hb dX0_scrub_62 (by decide) ?_
              refine lv_iadd hx hb dX0_scrub_63 ?_
              refine lv_bipush (v := 15) hx hb dX0_scrub_64 (by decide) ?_
              refine lv_iand hx hb dX0_scrub_66 ?_
              refine va_put (D := D) (ci := 0) (v := .int ((h_26 + 1) &&& 15)) (ty := .int) (C := RX0) (T := TX0) (N := 2) hx hb hts in_X0 tyX0 tyX0_ok nmX0 hown hK hP hD hS 0 rfl rfl 1 (by decide) (hts _ q29) (fun _ h9 => h9) rfl (by decide +kernel) rfl rfl (Nat.le_of_ble_eq_true rfl) dX0_scrub_67 (fun H locs hP hD hS => ?_)
              have hP : va_P D vwCl [(h0, .inr (0, [.ref hw, .int (((h_26 + 1) &&& 15))])), (hw, .inl (dS, 16, .inl ((hm_rep f_26 h_26).2)))] H := hP
              have hD : va_D A [(h0, .inr (0, [.ref hw, .int (((h_26 + 1) &&& 15))])), (hw, .inl (dS, 16, .inl ((hm_rep f_26 h_26).2)))] := hD
              refine lv_iinc (v := (x4_26 + 1)) (lv' := [(4, .int (x4_26 + 1)), (5, .int (hm_rep f_26 h_26).1), (3, .int x3_26), (2, .int (hm_left x1)), (0, .ref h0), (1, .int x1)]) hx hb dX0_scrub_70 hl (k := 1) rfl rfl (by decide) rfl (fun ls hl => ?_)
              refine lv_goto (tgt := 26) hx hb dX0_scrub_73 (by decide) ?_
              exact ih26 x3_26 (x4_26 + 1) ((hm_rep f_26 h_26).2) (((h_26 + 1) &&& 15)) (Nat.le_of_succ_le hn26) (hm_nx hn26 e26) (by rw [hm_scrL, if_neg c44, if_pos c51] at hI26; exact hI26) _ _ hP hD hS ls (lv_sub hl [0, 2, 3, 4, 5] rfl)
            · refine lv_iinc (v := (x3_26 + 1)) (lv' := [(3, .int (x3_26 + 1)), (5, .int (hm_rep f_26 h_26).1), (4, .int x4_26), (2, .int (hm_left x1)), (0, .ref h0), (1, .int x1)]) hx hb dX0_scrub_54 hl (k := 2) rfl rfl (by decide) rfl (fun ls hl => ?_)
              refine lv_aload_n hx hb dX0_scrub_57 rfl (lv_at hl 4 rfl) ?_
              refine lv_aload_n hx hb dX0_scrub_58 rfl (lv_at hl 4 rfl) ?_
              refine va_get (D := D) (ci := 0) (v := .int h_26) (C := RX0) (T := TX0) (N := 2) hx hb hts in_X0 hown hK hP 0 rfl rfl 1 (by decide) (hts _ q29) (fun _ h9 => h9) rfl dX0_scrub_59 ?_
              refine lv_iconst (v := 1) hx hb dX0_scrub_62 (by decide) ?_
              refine lv_iadd hx hb dX0_scrub_63 ?_
              refine lv_bipush (v := 15) hx hb dX0_scrub_64 (by decide) ?_
              refine lv_iand hx hb dX0_scrub_66 ?_
              refine va_put (D := D) (ci := 0) (v := .int ((h_26 + 1) &&& 15)) (ty := .int) (C := RX0) (T := TX0) (N := 2) hx hb hts in_X0 tyX0 tyX0_ok nmX0 hown hK hP hD hS 0 rfl rfl 1 (by decide) (hts _ q29) (fun _ h9 => h9) rfl (by decide +kernel) rfl rfl (Nat.le_of_ble_eq_true rfl) dX0_scrub_67 (fun H locs hP hD hS => ?_)
              have hP : va_P D vwCl [(h0, .inr (0, [.ref hw, .int (((h_26 + 1) &&& 15))])), (hw, .inl (dS, 16, .inl ((hm_rep f_26 h_26).2)))] H := hP
              have hD : va_D A [(h0, .inr (0, [.ref hw, .int (((h_26 + 1) &&& 15))])), (hw, .inl (dS, 16, .inl ((hm_rep f_26 h_26).2)))] := hD
              refine lv_iinc (v := (x4_26 + 1)) (lv' := [(4, .int (x4_26 + 1)), (3, .int (x3_26 + 1)), (5, .int (hm_rep f_26 h_26).1), (2, .int (hm_left x1)), (0, .ref h0), (1, .int x1)]) hx hb dX0_scrub_70 hl (k := 2) rfl rfl (by decide) rfl (fun ls hl => ?_)
              refine lv_goto (tgt := 26) hx hb dX0_scrub_73 (by decide) ?_
              exact ih26 (x3_26 + 1) (x4_26 + 1) ((hm_rep f_26 h_26).2) (((h_26 + 1) &&& 15)) (Nat.le_of_succ_le hn26) (hm_nx hn26 e26) (by rw [hm_scrL, if_neg c44, if_neg c51] at hI26; exact hI26) _ _ hP hD hS ls (lv_sub hl [0, 1, 3, 4, 5] rfl)
    exact lp26 ((hm_left x1).toNatClampNeg) 0 0 (f) (h) (Nat.le_refl _) (hm_i0 _) hT26.symm _ _ hP hD hS ls hl
  refine lv_if_ge (tgt := 8) hx hb dX0_scrub_1 (by decide) (fun c1 => ?_) (fun c1 => ?_)
  · refine lv_iload_n hx hb dX0_scrub_8 rfl (lv_at hl 1 rfl) ?_
    refine lv_bipush (v := 32) hx hb dX0_scrub_9 (by decide) ?_
    refine lv_icmp_le (tgt := 19) hx hb dX0_scrub_11 (by decide) (fun c11 => ?_) (fun c11 => ?_)
    · refine lv_iload_n hx hb dX0_scrub_19 rfl (lv_at hl 1 rfl) ?_
      refine lv_istore_n (lv' := [(2, .int x1), (0, .ref h0), (1, .int x1)]) hx hb dX0_scrub_20 rfl hl (by decide) rfl (fun ls hl => ?_)
      exact j21 x1 (by rw [hm_left, if_pos c1, if_pos c11]) ls (lv_sub hl [0, 1, 2] rfl)
    · refine lv_bipush (v := 32) hx hb dX0_scrub_14 (by decide) ?_
      refine lv_goto (tgt := 20) hx hb dX0_scrub_16 (by decide) ?_
      refine lv_istore_n (lv' := [(2, .int 32), (0, .ref h0), (1, .int x1)]) hx hb dX0_scrub_20 rfl hl (by decide) rfl (fun ls hl => ?_)
      exact j21 32 (by rw [hm_left, if_pos c1, if_neg c11]) ls (lv_sub hl [0, 1, 2] rfl)
  · refine lv_iconst (v := 0) hx hb dX0_scrub_4 (by decide) ?_
    refine lv_goto (tgt := 20) hx hb dX0_scrub_5 (by decide) ?_
    refine lv_istore_n (lv' := [(2, .int 0), (0, .ref h0), (1, .int x1)]) hx hb dX0_scrub_20 rfl hl (by decide) rfl (fun ls hl => ?_)
    exact j21 0 (by rw [hm_left, if_neg c1]) ls (lv_sub hl [0, 1, 2] rfl)
set_option maxHeartbeats 4000000 in
set_option maxRecDepth 100000 in
theorem mt_X0_mix (l : Launch) (D : va_G) (h0 hw : Nat) (dS : ClassId) (f : Nat → Int32) (h : Int32) (sz : Nat) (x1 : Int32) (x2 : Int32) : Met l yX0_mix (ws_ yX0_mix cX0_mix 6 (some .int)) ({ frames := 4, cells := 0, slots := 0, locals := 91 }) (va_Pc [.ref h0, .int x1, .int x2] (fun U => U.heap.size = sz ∧ va_P D vwCl [(h0, .inr (0, [.ref hw, .int (h)])), (hw, .inl (dS, 16, .inl (f)))] U.heap ∧ va_K D vwCl [(dS, .short)] U ∧ va_D (fun _ => True) [(h0, .inr (0, [.ref hw, .int (h)])), (hw, .inl (dS, 16, .inl (f)))])) (va_Qi (fun (r : Int32) (u : Nat → Int32) => (r, u) = hm_mix f x1 x2) (fun u t => va_P D vwCl [(h0, .inr (0, [.ref hw, .int (h)])), (hw, .inl (dS, 16, .inl (u)))] t.heap ∧ va_D (va_A [(h0, .inr (0, [.ref hw, .int (h)])), (hw, .inl (dS, 16, .inl (f)))] sz) [(h0, .inr (0, [.ref hw, .int (h)])), (hw, .inl (dS, 16, .inl (u)))]) (va_A [(h0, .inr (0, [.ref hw, .int (h)])), (hw, .inl (dS, 16, .inl (f)))] sz)) 0 0 (va_A [(h0, .inr (0, [.ref hw, .int (h)])), (hw, .inl (dS, 16, .inl (f)))] sz) := by
  refine Met.ofW (cc := cX0_mix) (maxL := 6) (ret := (some .int)) (by decide) rfl ?_
  intro p e s m args below meth c s₁ B hml hv
  obtain ⟨rfl, hsz, hP, hK, hD0⟩ := hv
  have hx := B.exec
  have hb := B.bytes
  have hr := B.returns
  have hts := atoms_spec (ws := (ws_ yX0_mix cX0_mix 6 (some .int))) B.pre
  have hts : ∀ w ∈ lw_all, w.before _ s = true := fun w h => hts w (List.mem_cons_of_mem _ h)
  have hown : s.vm.findClass RX0 = some m.cls := findClass_of_methodNamed B.named
  have hlocks := B.notSynchronized
  have S : CallFix p m c cX0_mix 6 s _ lw_all RX0 := ⟨hx, hb, hml, hown, hts⟩
  subst hsz
  have hD := hD0.self (sz := s.heap.size)
  generalize hAe : va_A [(h0, .inr (0, [.ref hw, .int (h)])), (hw, .inl (dS, 16, .inl (f)))] s.heap.size = A at hD ⊢
  have hA : ∀ q : Nat, s.heap.size ≤ q → A q := fun q h => by rw [← hAe]; exact Or.inr h
  have hS : va_S A s.heap s.heap [] := va_S.rf
  have hP : va_P D vwCl [(h0, .inr (0, [.ref hw, .int (h)])), (hw, .inl (dS, 16, .inl (f)))] s.heap := hP
  have hl := lv_entry ([.ref h0, .int x1, .int x2]) (n := 6) (Nat.le_of_ble_eq_true rfl)
  rw [lg_entry_eq]
  generalize (lg_sl ([.ref h0, .int x1, .int x2]) ++ List.replicate (6 - (lg_sl ([.ref h0, .int x1, .int x2])).length) Slot.unset).toArray = ls at hl ⊢
  have hl : lv_has ls 6 [(0, .ref h0), (1, .int x1), (2, .int x2)] := hl
  refine lv_aload_n hx hb dX0_mix_0 rfl (lv_at hl 0 rfl) ?_
  refine lv_iload_n hx hb dX0_mix_1 rfl (lv_at hl 1 rfl) ?_
  refine ca_X0_isWord S ⟨Nat.le_of_ble_eq_true rfl, Nat.le_of_ble_eq_true rfl⟩ (va_recv hK hP (ci := 0) (q0 := 0) rfl rfl) hl.1 (Nat.le_of_ble_eq_true rfl) dX0_mix_2 ⟨Nat.zero_le _, Nat.zero_le _⟩ ?_
  refine lv_if_eq (tgt := 16) hx hb dX0_mix_5 (by decide) (fun c5 => ?_) (fun c5 => ?_)
  · refine lv_iconst (v := -1) hx hb dX0_mix_16 (by decide) ?_
    exact W.iret (v := (-1)) hx hb hr (fun t ht hW => ⟨⟨(-1), f, rfl, by show ((-1), f) = hm_mix f x1 x2; rw [hm_mix, if_pos c5], by rw [ht]; exact hP, hD⟩, hS.F ht⟩) hS.2.2 dX0_mix_17 hlocks
  · refine lv_aload_n hx hb dX0_mix_8 rfl (lv_at hl 0 rfl) ?_
    refine lv_iload_n hx hb dX0_mix_9 rfl (lv_at hl 2 rfl) ?_
    refine ca_X0_isWord S ⟨Nat.le_of_ble_eq_true rfl, Nat.le_of_ble_eq_true rfl⟩ (va_recv hK hP (ci := 0) (q0 := 0) rfl rfl) hl.1 (Nat.le_of_ble_eq_true rfl) dX0_mix_10 ⟨Nat.zero_le _, Nat.zero_le _⟩ ?_
    refine lv_if_ne (tgt := 18) hx hb dX0_mix_13 (by decide) (fun c13 => ?_) (fun c13 => ?_)
    · refine lv_aload_n hx hb dX0_mix_18 rfl (lv_at hl 0 rfl) ?_
      refine lv_iload_n hx hb dX0_mix_19 rfl (lv_at hl 1 rfl) ?_
      refine ca_X0_read S ⟨Nat.le_of_ble_eq_true rfl, Nat.le_of_ble_eq_true rfl⟩ hK hP hl.1 (Nat.le_of_ble_eq_true rfl) dX0_mix_20 ⟨Nat.zero_le _, Nat.zero_le _⟩ ?_
      refine lv_istore_n (lv' := [(3, .int (hm_read f x1)), (0, .ref h0), (1, .int x1), (2, .int x2)]) hx hb dX0_mix_23 rfl hl (by decide) rfl (fun ls hl => ?_)
      refine lv_aload_n hx hb dX0_mix_24 rfl (lv_at hl 1 rfl) ?_
      refine lv_iload_n hx hb dX0_mix_25 rfl (lv_at hl 3 rfl) ?_
      refine ca_X0_read S ⟨Nat.le_of_ble_eq_true rfl, Nat.le_of_ble_eq_true rfl⟩ hK hP hl.1 (Nat.le_of_ble_eq_true rfl) dX0_mix_26 ⟨Nat.zero_le _, Nat.zero_le _⟩ ?_
      refine lv_istore (lv' := [(4, .int (hm_read f x2)), (3, .int (hm_read f x1)), (0, .ref h0), (1, .int x1), (2, .int x2)]) hx hb dX0_mix_29 hl (by decide) rfl (fun ls hl => ?_)
      refine lv_iload_n hx hb dX0_mix_31 rfl (lv_at hl 1 rfl) ?_
      refine lv_bipush (v := -2) hx hb dX0_mix_32 (by decide) ?_
      refine lv_icmp_eq (tgt := 44) hx hb dX0_mix_34 (by decide) (fun c34 => ?_) (fun c34 => ?_)
      · refine lv_bipush (v := -2) hx hb dX0_mix_44 (by decide) ?_
        exact W.iret (v := (-2)) hx hb hr (fun t ht hW => ⟨⟨(-2), f, rfl, by show ((-2), f) = hm_mix f x1 x2; rw [hm_mix, if_neg c5, if_neg c13, if_pos c34], by rw [ht]; exact hP, hD⟩, hS.F ht⟩) hS.2.2 dX0_mix_46 hlocks
      · refine lv_iload hx hb dX0_mix_37 (lv_at hl 0 rfl) ?_
        refine lv_bipush (v := -2) hx hb dX0_mix_39 (by decide) ?_
        refine lv_icmp_ne (tgt := 47) hx hb dX0_mix_41 (by decide) (fun c41 => ?_) (fun c41 => ?_)
        · refine lv_iload_n hx hb dX0_mix_47 rfl (lv_at hl 1 rfl) ?_
          refine lv_iload hx hb dX0_mix_48 (lv_at hl 0 rfl) ?_
          refine lv_ixor hx hb dX0_mix_50 ?_
          refine lv_istore (lv' := [(5, .int ((hm_read f x1) ^^^ (hm_read f x2))), (4, .int (hm_read f x2)), (3, .int (hm_read f x1)), (0, .ref h0), (1, .int x1), (2, .int x2)]) hx hb dX0_mix_51 hl (by decide) rfl (fun ls hl => ?_)
          refine lv_aload_n hx hb dX0_mix_53 rfl (lv_at hl 3 rfl) ?_
          refine va_get (D := D) (ci := 0) (v := .ref hw) (C := RX0) (T := TX0) (N := 2) hx hb hts in_X0 hown hK hP 0 rfl rfl 0 (by decide) (hts _ q28) (fun _ h9 => h9) rfl dX0_mix_54 ?_
          refine lv_iload_n hx hb dX0_mix_57 rfl (lv_at hl 5 rfl) ?_
          refine lv_aload_n hx hb dX0_mix_58 rfl (lv_at hl 3 rfl) ?_
          refine lv_iload hx hb dX0_mix_59 (lv_at hl 0 rfl) ?_
          refine ca_X0_encoded S ⟨Nat.le_of_ble_eq_true rfl, Nat.le_of_ble_eq_true rfl⟩ (va_recv hK hP (ci := 0) (q0 := 0) rfl rfl) hl.1 (Nat.le_of_ble_eq_true rfl) dX0_mix_61 ⟨Nat.zero_le _, Nat.zero_le _⟩ ?_
          refine lv_i2s (v := (hm_enc ((hm_read f x1) ^^^ (hm_read f x2))).toInt16.toInt32) hx hb dX0_mix_64 rfl ?_
          refine va_sast hx hb hK hP hD hS 1 0 rfl rfl (hm_isWord_in c13) dX0_mix_65 (fun H locs hP hD hS => ?_)
          have hP : va_P D vwCl [(h0, .inr (0, [.ref hw, .int (h)])), (hw, .inl (dS, 16, .inl (upd f x2.toNatClampNeg (hm_sh (hm_enc ((hm_read f x1) ^^^ (hm_read f x2)))))))] H := hP
          have hD : va_D A [(h0, .inr (0, [.ref hw, .int (h)])), (hw, .inl (dS, 16, .inl (upd f x2.toNatClampNeg (hm_sh (hm_enc ((hm_read f x1) ^^^ (hm_read f x2)))))))] := hD
          refine lv_iload hx hb dX0_mix_66 (lv_at hl 0 rfl) ?_
          exact W.iret (v := ((hm_read f x1) ^^^ (hm_read f x2))) hx hb hr (fun t ht hW => ⟨⟨((hm_read f x1) ^^^ (hm_read f x2)), upd f x2.toNatClampNeg (hm_sh (hm_enc ((hm_read f x1) ^^^ (hm_read f x2)))), rfl, by show (((hm_read f x1) ^^^ (hm_read f x2)), upd f x2.toNatClampNeg (hm_sh (hm_enc ((hm_read f x1) ^^^ (hm_read f x2))))) = hm_mix f x1 x2; rw [hm_mix, if_neg c5, if_neg c13, if_neg c34, if_neg c41], by rw [ht]; exact hP, hD⟩, hS.F ht⟩) hS.2.2 dX0_mix_68 hlocks
        · refine lv_bipush (v := -2) hx hb dX0_mix_44 (by decide) ?_
          exact W.iret (v := (-2)) hx hb hr (fun t ht hW => ⟨⟨(-2), f, rfl, by show ((-2), f) = hm_mix f x1 x2; rw [hm_mix, if_neg c5, if_neg c13, if_neg c34, if_pos c41], by rw [ht]; exact hP, hD⟩, hS.F ht⟩) hS.2.2 dX0_mix_46 hlocks
    · refine lv_iconst (v := -1) hx hb dX0_mix_16 (by decide) ?_
      exact W.iret (v := (-1)) hx hb hr (fun t ht hW => ⟨⟨(-1), f, rfl, by show ((-1), f) = hm_mix f x1 x2; rw [hm_mix, if_neg c5, if_pos c13], by rw [ht]; exact hP, hD⟩, hS.F ht⟩) hS.2.2 dX0_mix_17 hlocks
end
section
set_option maxHeartbeats 4000000 in
set_option maxRecDepth 100000 in
theorem mt_X1_bit (l : Launch) (h0 : Nat) (x1 : Int32) (x2 : Int32) : Met l yX1_bit (ws_ yX1_bit cX1_bit 3 (some .int)) ({ frames := 0, cells := 0, slots := 0, locals := 0 }) (va_Pc [.ref h0, .int x1, .int x2] (hm_rv RX1 h0)) (QcRead (mo_bit x1 x2)) 0 0 (fun _ => False) := by
  refine Met.ofW (cc := cX1_bit) (maxL := 3) (ret := (some .int)) (by decide) rfl ?_
  intro p e s m args below meth c s₁ B hml hv
  obtain ⟨rfl, hrv⟩ := hv
  have hx := B.exec
  have hb := B.bytes
  have hr := B.returns
  have hts := atoms_spec (ws := (ws_ yX1_bit cX1_bit 3 (some .int))) B.pre
  have hts : ∀ w ∈ lw_all, w.before _ s = true := fun w h => hts w (List.mem_cons_of_mem _ h)
  have hown : s.vm.findClass RX1 = some m.cls := findClass_of_methodNamed B.named
  have hlocks := B.notSynchronized
  have S : CallFix p m c cX1_bit 3 s _ lw_all RX1 := ⟨hx, hb, hml, hown, hts⟩
  have hl := lv_entry ([.ref h0, .int x1, .int x2]) (n := 3) (Nat.le_of_ble_eq_true rfl)
  rw [lg_entry_eq]
  generalize (lg_sl ([.ref h0, .int x1, .int x2]) ++ List.replicate (3 - (lg_sl ([.ref h0, .int x1, .int x2])).length) Slot.unset).toArray = ls at hl ⊢
  have hl : lv_has ls 3 [(0, .ref h0), (1, .int x1), (2, .int x2)] := hl
  refine lv_iload_n hx hb dX1_bit_0 rfl (lv_at hl 1 rfl) ?_
  refine lv_iload_n hx hb dX1_bit_1 rfl (lv_at hl 2 rfl) ?_
  refine lv_ishr hx hb dX1_bit_2 ?_
  refine lv_iconst (v := 1) hx hb dX1_bit_3 (by decide) ?_
  refine lv_iand hx hb dX1_bit_4 ?_
  exact hm_iret hx hb hr hlocks (by rw [mo_bit]) dX1_bit_5
set_option maxHeartbeats 4000000 in
theorem ca_X1_bit {p : Program} {l : Launch} {e : Env} {R : Room} {s : State} {m : MethodId} {args : Array Value} {below : List Frame} {meth : Method} {c : Code} {H : Heap} {locs : List Loc} {cells slots : Nat} {Q : State → Prop} {cc : ByteArray} {nL pc : Nat} {ls : Array Slot} {rest : List Value} {x1 x2 : Int32} {h0 : Nat} (S : CallFix p m c cc nL s args lw_all RX1) (hR : 0 + 1 ≤ R.frames ∧ 8 + (3 + 11) + 0 ≤ R.locals) (hrv : ∃ cell : Cell, H[h0]? = some cell ∧ cell.vm.isStatics = false ∧ s.vm.findClass RX1 = some cell.cls) (hsize : ls.size = nL) (hW : (rest.map fun v => v.category).sum ≤ 8) (hdg : decode cc pc = .ok (.invokevirtual 24, 3)) (hf : cells ≤ R.cells ∧ slots ≤ R.slots) (kk : W p l e R s m args below meth c H locs cells slots Q (F0 m (pc + 3) ls (.int (mo_bit x1 x2) :: rest))) : W p l e R s m args below meth c H locs cells slots Q (F0 m pc ls (.int x2 :: .int x1 :: .ref h0 :: rest)) :=
  hm_call (As := [.int x1, .int x2]) S (mt_X1_bit l h0 x1 x2) (cwV 2 S.2.2.2.2 (lw_V q144 q146 qs13 q19 q147) rfl rfl rfl (by decide +kernel) hR) (hm_preR hrv) rfl hsize rfl hW hdg hf kk
set_option maxHeartbeats 4000000 in
set_option maxRecDepth 100000 in
theorem mt_X1_placeOf (l : Launch) (h0 : Nat) (x1 : Int32) : Met l yX1_placeOf (ws_ yX1_placeOf cX1_placeOf 4 (some .int)) ({ frames := 0, cells := 0, slots := 0, locals := 0 }) (va_Pc [.ref h0, .int x1] (hm_rv RX1 h0)) (QcRead (mo_pla x1)) 0 0 (fun _ => False) := by
  refine Met.ofW (cc := cX1_placeOf) (maxL := 4) (ret := (some .int)) (by decide) rfl ?_
  intro p e s m args below meth c s₁ B hml hv
  obtain ⟨rfl, hrv⟩ := hv
  have hx := B.exec
  have hb := B.bytes
  have hr := B.returns
  have hts := atoms_spec (ws := (ws_ yX1_placeOf cX1_placeOf 4 (some .int))) B.pre
  have hts : ∀ w ∈ lw_all, w.before _ s = true := fun w h => hts w (List.mem_cons_of_mem _ h)
  have hown : s.vm.findClass RX1 = some m.cls := findClass_of_methodNamed B.named
  have hlocks := B.notSynchronized
  have S : CallFix p m c cX1_placeOf 4 s _ lw_all RX1 := ⟨hx, hb, hml, hown, hts⟩
  have hl := lv_entry ([.ref h0, .int x1]) (n := 4) (Nat.le_of_ble_eq_true rfl)
  rw [lg_entry_eq]
  generalize (lg_sl ([.ref h0, .int x1]) ++ List.replicate (4 - (lg_sl ([.ref h0, .int x1])).length) Slot.unset).toArray = ls at hl ⊢
  have hl : lv_has ls 4 [(0, .ref h0), (1, .int x1)] := hl
  refine lv_iconst (v := 0) hx hb dX1_placeOf_0 (by decide) ?_
  refine lv_istore_n (lv' := [(2, .int 0), (0, .ref h0), (1, .int x1)]) hx hb dX1_placeOf_1 rfl hl (by decide) rfl (fun ls hl => ?_)
  refine lv_iconst (v := 1) hx hb dX1_placeOf_2 (by decide) ?_
  refine lv_istore_n (lv' := [(3, .int 1), (2, .int 0), (0, .ref h0), (1, .int x1)]) hx hb dX1_placeOf_3 rfl hl (by decide) rfl (fun ls hl => ?_)
  obtain ⟨T4, hT4⟩ : ∃ T, T = mo_plaL x1 12 0 1 := ⟨_, rfl⟩
  have lp4 : ∀ (n4 : Nat) (x2_4 x3_4 : Int32), n4 ≤ 13 → x3_4 = nI (13 - n4) → mo_plaL x1 n4 x2_4 x3_4 = T4 → ∀ ls : Array Slot, lv_has ls 4 [(3, .int x3_4), (2, .int x2_4), (0, .ref h0), (1, .int x1)] → W p l e (headSpec (ws_ yX1_placeOf cX1_placeOf 4 (some .int)) ({ frames := 0, cells := 0, slots := 0, locals := 0 })).room s m ([.ref h0, .int x1] : List Value).toArray below meth c s.heap [] 0 0 (MQ below (QcRead (mo_pla x1)) ([.ref h0, .int x1] : List Value).toArray s 0 0 (fun _ => False)) (F0 m 4 ls []) := by
    intro n4
    induction n4 with
    | zero =>
      intro x2_4 x3_4 hn4 e4 hI4 ls hl
      refine lv_iload_n hx hb dX1_placeOf_4 rfl (lv_at hl 0 rfl) ?_
      refine lv_bipush (v := 12) hx hb dX1_placeOf_5 (by decide) ?_
      refine lv_icmp_gt (tgt := 47) hx hb dX1_placeOf_7 (by decide) (fun c7 => ?_) (fun c7 => ?_)
      · refine lv_iconst (v := 0) hx hb dX1_placeOf_47 (by decide) ?_
        exact hm_iret hx hb hr hlocks (by have h9 : 0 = T4 := hI4; rw [h9, hT4, mo_pla]) dX1_placeOf_48
      · exact absurd (hm_gt0 (N := 12) rfl (by decide) e4) c7
    | succ n4 ih4 =>
      intro x2_4 x3_4 hn4 e4 hI4 ls hl
      refine lv_iload_n hx hb dX1_placeOf_4 rfl (lv_at hl 0 rfl) ?_
      refine lv_bipush (v := 12) hx hb dX1_placeOf_5 (by decide) ?_
      refine lv_icmp_gt (tgt := 47) hx hb dX1_placeOf_7 (by decide) (fun c7 => ?_) (fun c7 => ?_)
      · exact absurd c7 (hm_gtS (N := 12) rfl (by decide) hn4 e4)
      · refine lv_iload_n hx hb dX1_placeOf_10 rfl (lv_at hl 0 rfl) ?_
        refine lv_iconst (v := 1) hx hb dX1_placeOf_11 (by decide) ?_
        refine lv_icmp_eq (tgt := 41) hx hb dX1_placeOf_12 (by decide) (fun c12 => ?_) (fun c12 => ?_)
        · refine lv_iinc (v := (x3_4 + 1)) (lv' := [(3, .int (x3_4 + 1)), (2, .int x2_4), (0, .ref h0), (1, .int x1)]) hx hb dX1_placeOf_41 hl (k := 0) rfl rfl (by decide) rfl (fun ls hl => ?_)
          refine lv_goto (tgt := 4) hx hb dX1_placeOf_44 (by decide) ?_
          exact ih4 x2_4 (x3_4 + 1) (Nat.le_of_succ_le hn4) (hm_nx hn4 e4) (by rw [mo_plaL, if_pos c12] at hI4; exact hI4) ls (lv_sub hl [0, 1, 2, 3] rfl)
        · refine lv_iload_n hx hb dX1_placeOf_15 rfl (lv_at hl 0 rfl) ?_
          refine lv_iconst (v := 2) hx hb dX1_placeOf_16 (by decide) ?_
          refine lv_icmp_eq (tgt := 41) hx hb dX1_placeOf_17 (by decide) (fun c17 => ?_) (fun c17 => ?_)
          · refine lv_iinc (v := (x3_4 + 1)) (lv' := [(3, .int (x3_4 + 1)), (2, .int x2_4), (0, .ref h0), (1, .int x1)]) hx hb dX1_placeOf_41 hl (k := 0) rfl rfl (by decide) rfl (fun ls hl => ?_)
            refine lv_goto (tgt := 4) hx hb dX1_placeOf_44 (by decide) ?_
            exact ih4 x2_4 (x3_4 + 1) (Nat.le_of_succ_le hn4) (hm_nx hn4 e4) (by rw [mo_plaL, if_neg c12, if_pos c17] at hI4; exact hI4) ls (lv_sub hl [0, 1, 2, 3] rfl)
          · refine lv_iload_n hx hb dX1_placeOf_20 rfl (lv_at hl 0 rfl) ?_
            refine lv_iconst (v := 4) hx hb dX1_placeOf_21 (by decide) ?_
            refine lv_icmp_eq (tgt := 41) hx hb dX1_placeOf_22 (by decide) (fun c22 => ?_) (fun c22 => ?_)
            · refine lv_iinc (v := (x3_4 + 1)) (lv' := [(3, .int (x3_4 + 1)), (2, .int x2_4), (0, .ref h0), (1, .int x1)]) hx hb dX1_placeOf_41 hl (k := 0) rfl rfl (by decide) rfl (fun ls hl => ?_)
              refine lv_goto (tgt := 4) hx hb dX1_placeOf_44 (by decide) ?_
              exact ih4 x2_4 (x3_4 + 1) (Nat.le_of_succ_le hn4) (hm_nx hn4 e4) (by rw [mo_plaL, if_neg c12, if_neg c17, if_pos c22] at hI4; exact hI4) ls (lv_sub hl [0, 1, 2, 3] rfl)
            · refine lv_iload_n hx hb dX1_placeOf_25 rfl (lv_at hl 0 rfl) ?_
              refine lv_bipush (v := 8) hx hb dX1_placeOf_26 (by decide) ?_
              refine lv_icmp_eq (tgt := 41) hx hb dX1_placeOf_28 (by decide) (fun c28 => ?_) (fun c28 => ?_)
              · refine lv_iinc (v := (x3_4 + 1)) (lv' := [(3, .int (x3_4 + 1)), (2, .int x2_4), (0, .ref h0), (1, .int x1)]) hx hb dX1_placeOf_41 hl (k := 0) rfl rfl (by decide) rfl (fun ls hl => ?_)
                refine lv_goto (tgt := 4) hx hb dX1_placeOf_44 (by decide) ?_
                exact ih4 x2_4 (x3_4 + 1) (Nat.le_of_succ_le hn4) (hm_nx hn4 e4) (by rw [mo_plaL, if_neg c12, if_neg c17, if_neg c22, if_pos c28] at hI4; exact hI4) ls (lv_sub hl [0, 1, 2, 3] rfl)
              · refine lv_iload_n hx hb dX1_placeOf_31 rfl (lv_at hl 1 rfl) ?_
                refine lv_iload_n hx hb dX1_placeOf_32 rfl (lv_at hl 3 rfl) ?_
                refine lv_icmp_ne (tgt := 38) hx hb dX1_placeOf_33 (by decide) (fun c33 => ?_) (fun c33 => ?_)
                · refine lv_iinc (v := (x2_4 + 1)) (lv' := [(2, .int (x2_4 + 1)), (3, .int x3_4), (0, .ref h0), (1, .int x1)]) hx hb dX1_placeOf_38 hl (k := 1) rfl rfl (by decide) rfl (fun ls hl => ?_)
                  refine lv_iinc (v := (x3_4 + 1)) (lv' := [(3, .int (x3_4 + 1)), (2, .int (x2_4 + 1)), (0, .ref h0), (1, .int x1)]) hx hb dX1_placeOf_41 hl (k := 1) rfl rfl (by decide) rfl (fun ls hl => ?_)
                  refine lv_goto (tgt := 4) hx hb dX1_placeOf_44 (by decide) ?_
                  exact ih4 (x2_4 + 1) (x3_4 + 1) (Nat.le_of_succ_le hn4) (hm_nx hn4 e4) (by rw [mo_plaL, if_neg c12, if_neg c17, if_neg c22, if_neg c28, if_neg c33] at hI4; exact hI4) ls (lv_sub hl [0, 1, 2, 3] rfl)
                · refine lv_iload_n hx hb dX1_placeOf_36 rfl (lv_at hl 0 rfl) ?_
                  exact hm_iret hx hb hr hlocks (by rw [mo_plaL, if_neg c12, if_neg c17, if_neg c22, if_neg c28, if_pos c33] at hI4; rw [hI4, hT4, mo_pla]) dX1_placeOf_37
  exact lp4 12 0 1 (by omega) (by decide) hT4.symm ls hl
set_option maxHeartbeats 4000000 in
theorem ca_X1_placeOf {p : Program} {l : Launch} {e : Env} {R : Room} {s : State} {m : MethodId} {args : Array Value} {below : List Frame} {meth : Method} {c : Code} {H : Heap} {locs : List Loc} {cells slots : Nat} {Q : State → Prop} {cc : ByteArray} {nL pc : Nat} {ls : Array Slot} {rest : List Value} {x1 : Int32} {h0 : Nat} (S : CallFix p m c cc nL s args lw_all RX1) (hR : 0 + 1 ≤ R.frames ∧ 8 + (4 + 11) + 0 ≤ R.locals) (hrv : ∃ cell : Cell, H[h0]? = some cell ∧ cell.vm.isStatics = false ∧ s.vm.findClass RX1 = some cell.cls) (hsize : ls.size = nL) (hW : (rest.map fun v => v.category).sum ≤ 8) (hdg : decode cc pc = .ok (.invokevirtual 28, 3)) (hf : cells ≤ R.cells ∧ slots ≤ R.slots) (kk : W p l e R s m args below meth c H locs cells slots Q (F0 m (pc + 3) ls (.int (mo_pla x1) :: rest))) : W p l e R s m args below meth c H locs cells slots Q (F0 m pc ls (.int x1 :: .ref h0 :: rest)) :=
  hm_call (As := [.int x1]) S (mt_X1_placeOf l h0 x1) (cwV 1 S.2.2.2.2 (lw_V q140 q142 qs12 q19 q143) rfl rfl rfl (by decide +kernel) hR) (hm_preR hrv) rfl hsize rfl hW hdg hf kk
set_option maxHeartbeats 4000000 in
set_option maxRecDepth 100000 in
theorem mt_X1_even (l : Launch) (h0 : Nat) (x1 : Int32) (x2 : Int32) : Met l yX1_even (ws_ yX1_even cX1_even 5 (some .boolean)) ({ frames := 1, cells := 0, slots := 0, locals := 22 }) (va_Pc [.ref h0, .int x1, .int x2] (hm_rv RX1 h0)) (QcRead (mo_even x1 x2)) 0 0 (fun _ => False) := by
  refine Met.ofW (cc := cX1_even) (maxL := 5) (ret := (some .boolean)) (by decide) rfl ?_
  intro p e s m args below meth c s₁ B hml hv
  obtain ⟨rfl, hrv⟩ := hv
  have hx := B.exec
  have hb := B.bytes
  have hr := B.returns
  have hts := atoms_spec (ws := (ws_ yX1_even cX1_even 5 (some .boolean))) B.pre
  have hts : ∀ w ∈ lw_all, w.before _ s = true := fun w h => hts w (List.mem_cons_of_mem _ h)
  have hown : s.vm.findClass RX1 = some m.cls := findClass_of_methodNamed B.named
  have hlocks := B.notSynchronized
  have S : CallFix p m c cX1_even 5 s _ lw_all RX1 := ⟨hx, hb, hml, hown, hts⟩
  have hl := lv_entry ([.ref h0, .int x1, .int x2]) (n := 5) (Nat.le_of_ble_eq_true rfl)
  rw [lg_entry_eq]
  generalize (lg_sl ([.ref h0, .int x1, .int x2]) ++ List.replicate (5 - (lg_sl ([.ref h0, .int x1, .int x2])).length) Slot.unset).toArray = ls at hl ⊢
  have hl : lv_has ls 5 [(0, .ref h0), (1, .int x1), (2, .int x2)] := hl
  refine lv_iconst (v := 0) hx hb dX1_even_0 (by decide) ?_
  refine lv_istore_n (lv' := [(3, .int 0), (0, .ref h0), (1, .int x1), (2, .int x2)]) hx hb dX1_even_1 rfl hl (by decide) rfl (fun ls hl => ?_)
  refine lv_iconst (v := 0) hx hb dX1_even_2 (by decide) ?_
  refine lv_istore (lv' := [(4, .int 0), (3, .int 0), (0, .ref h0), (1, .int x1), (2, .int x2)]) hx hb dX1_even_3 hl (by decide) rfl (fun ls hl => ?_)
  obtain ⟨T5, hT5⟩ : ∃ T, T = mo_evL x1 x2 13 0 0 := ⟨_, rfl⟩
  have lp5 : ∀ (n5 : Nat) (x3_5 x4_5 : Int32), n5 ≤ 13 → x4_5 = nI (13 - n5) → mo_evL x1 x2 n5 x3_5 x4_5 = T5 → ∀ ls : Array Slot, lv_has ls 5 [(4, .int x4_5), (3, .int x3_5), (0, .ref h0), (1, .int x1), (2, .int x2)] → W p l e (headSpec (ws_ yX1_even cX1_even 5 (some .boolean)) ({ frames := 1, cells := 0, slots := 0, locals := 22 })).room s m ([.ref h0, .int x1, .int x2] : List Value).toArray below meth c s.heap [] 0 0 (MQ below (QcRead (mo_even x1 x2)) ([.ref h0, .int x1, .int x2] : List Value).toArray s 0 0 (fun _ => False)) (F0 m 5 ls []) := by
    intro n5
    induction n5 with
    | zero =>
      intro x3_5 x4_5 hn5 e5 hI5 ls hl
      refine lv_iload hx hb dX1_even_5 (lv_at hl 0 rfl) ?_
      refine lv_bipush (v := 12) hx hb dX1_even_7 (by decide) ?_
      refine lv_icmp_gt (tgt := 39) hx hb dX1_even_9 (by decide) (fun c9 => ?_) (fun c9 => ?_)
      · obtain rfl : x3_5 = mo_evL x1 x2 13 0 0 := (show x3_5 = T5 from hI5).trans hT5
        refine lv_iload_n hx hb dX1_even_39 rfl (lv_at hl 1 rfl) ?_
        refine lv_iconst (v := 2) hx hb dX1_even_40 (by decide) ?_
        refine lv_irem hx hb dX1_even_41 (by decide) ?_
        refine lv_if_ne (tgt := 49) hx hb dX1_even_42 (by decide) (fun c42 => ?_) (fun c42 => ?_)
        · refine lv_iconst (v := 0) hx hb dX1_even_49 (by decide) ?_
          exact hm_zret hx hb hr hlocks rfl (by rw [mo_even, if_neg c42]) dX1_even_50
        · refine lv_iconst (v := 1) hx hb dX1_even_45 (by decide) ?_
          refine lv_goto (tgt := 50) hx hb dX1_even_46 (by decide) ?_
          exact hm_zret hx hb hr hlocks rfl (by rw [mo_even, if_pos c42]) dX1_even_50
      · exact absurd (hm_gt0 (N := 12) rfl (by decide) e5) c9
    | succ n5 ih5 =>
      intro x3_5 x4_5 hn5 e5 hI5 ls hl
      refine lv_iload hx hb dX1_even_5 (lv_at hl 0 rfl) ?_
      refine lv_bipush (v := 12) hx hb dX1_even_7 (by decide) ?_
      refine lv_icmp_gt (tgt := 39) hx hb dX1_even_9 (by decide) (fun c9 => ?_) (fun c9 => ?_)
      · exact absurd c9 (hm_gtS (N := 12) rfl (by decide) hn5 e5)
      · refine lv_iload_n hx hb dX1_even_12 rfl (lv_at hl 4 rfl) ?_
        refine lv_if_eq (tgt := 23) hx hb dX1_even_13 (by decide) (fun c13 => ?_) (fun c13 => ?_)
        · refine lv_iload_n hx hb dX1_even_23 rfl (lv_at hl 1 rfl) ?_
          refine lv_aload_n hx hb dX1_even_24 rfl (lv_at hl 2 rfl) ?_
          refine lv_iload_n hx hb dX1_even_25 rfl (lv_at hl 3 rfl) ?_
          refine lv_iload hx hb dX1_even_26 (lv_at hl 0 rfl) ?_
          refine ca_X1_bit S ⟨Nat.le_of_ble_eq_true rfl, Nat.le_of_ble_eq_true rfl⟩ hrv hl.1 (Nat.le_of_ble_eq_true rfl) dX1_even_28 ⟨Nat.zero_le _, Nat.zero_le _⟩ ?_
          refine lv_iadd hx hb dX1_even_31 ?_
          refine lv_istore_n (lv' := [(3, .int (x3_5 + (mo_bit x1 x4_5))), (4, .int x4_5), (0, .ref h0), (1, .int x1), (2, .int x2)]) hx hb dX1_even_32 rfl hl (by decide) rfl (fun ls hl => ?_)
          refine lv_iinc (v := (x4_5 + 1)) (lv' := [(4, .int (x4_5 + 1)), (3, .int (x3_5 + (mo_bit x1 x4_5))), (0, .ref h0), (1, .int x1), (2, .int x2)]) hx hb dX1_even_33 hl (k := 1) rfl rfl (by decide) rfl (fun ls hl => ?_)
          refine lv_goto (tgt := 5) hx hb dX1_even_36 (by decide) ?_
          exact ih5 (x3_5 + (mo_bit x1 x4_5)) (x4_5 + 1) (Nat.le_of_succ_le hn5) (hm_nx hn5 e5) (by rw [mo_evL, if_pos c13] at hI5; exact hI5) ls (lv_sub hl [0, 1, 2, 3, 4] rfl)
        · refine lv_iload hx hb dX1_even_16 (lv_at hl 0 rfl) ?_
          refine lv_iload_n hx hb dX1_even_18 rfl (lv_at hl 4 rfl) ?_
          refine lv_iand hx hb dX1_even_19 ?_
          refine lv_if_eq (tgt := 33) hx hb dX1_even_20 (by decide) (fun c20 => ?_) (fun c20 => ?_)
          · refine lv_iinc (v := (x4_5 + 1)) (lv' := [(4, .int (x4_5 + 1)), (3, .int x3_5), (0, .ref h0), (1, .int x1), (2, .int x2)]) hx hb dX1_even_33 hl (k := 0) rfl rfl (by decide) rfl (fun ls hl => ?_)
            refine lv_goto (tgt := 5) hx hb dX1_even_36 (by decide) ?_
            exact ih5 x3_5 (x4_5 + 1) (Nat.le_of_succ_le hn5) (hm_nx hn5 e5) (by rw [mo_evL, if_neg c13, if_pos c20] at hI5; exact hI5) ls (lv_sub hl [0, 1, 2, 3, 4] rfl)
          · refine lv_iload_n hx hb dX1_even_23 rfl (lv_at hl 1 rfl) ?_
            refine lv_aload_n hx hb dX1_even_24 rfl (lv_at hl 2 rfl) ?_
            refine lv_iload_n hx hb dX1_even_25 rfl (lv_at hl 3 rfl) ?_
            refine lv_iload hx hb dX1_even_26 (lv_at hl 0 rfl) ?_
            refine ca_X1_bit S ⟨Nat.le_of_ble_eq_true rfl, Nat.le_of_ble_eq_true rfl⟩ hrv hl.1 (Nat.le_of_ble_eq_true rfl) dX1_even_28 ⟨Nat.zero_le _, Nat.zero_le _⟩ ?_
            refine lv_iadd hx hb dX1_even_31 ?_
            refine lv_istore_n (lv' := [(3, .int (x3_5 + (mo_bit x1 x4_5))), (4, .int x4_5), (0, .ref h0), (1, .int x1), (2, .int x2)]) hx hb dX1_even_32 rfl hl (by decide) rfl (fun ls hl => ?_)
            refine lv_iinc (v := (x4_5 + 1)) (lv' := [(4, .int (x4_5 + 1)), (3, .int (x3_5 + (mo_bit x1 x4_5))), (0, .ref h0), (1, .int x1), (2, .int x2)]) hx hb dX1_even_33 hl (k := 1) rfl rfl (by decide) rfl (fun ls hl => ?_)
            refine lv_goto (tgt := 5) hx hb dX1_even_36 (by decide) ?_
            exact ih5 (x3_5 + (mo_bit x1 x4_5)) (x4_5 + 1) (Nat.le_of_succ_le hn5) (hm_nx hn5 e5) (by rw [mo_evL, if_neg c13, if_neg c20] at hI5; exact hI5) ls (lv_sub hl [0, 1, 2, 3, 4] rfl)
  exact lp5 13 0 0 (by omega) (by decide) hT5.symm ls hl
set_option maxHeartbeats 4000000 in
theorem ca_X1_even {p : Program} {l : Launch} {e : Env} {R : Room} {s : State} {m : MethodId} {args : Array Value} {below : List Frame} {meth : Method} {c : Code} {H : Heap} {locs : List Loc} {cells slots : Nat} {Q : State → Prop} {cc : ByteArray} {nL pc : Nat} {ls : Array Slot} {rest : List Value} {x1 x2 : Int32} {h0 : Nat} (S : CallFix p m c cc nL s args lw_all RX1) (hR : 1 + 1 ≤ R.frames ∧ 8 + (5 + 11) + 22 ≤ R.locals) (hrv : ∃ cell : Cell, H[h0]? = some cell ∧ cell.vm.isStatics = false ∧ s.vm.findClass RX1 = some cell.cls) (hsize : ls.size = nL) (hW : (rest.map fun v => v.category).sum ≤ 8) (hdg : decode cc pc = .ok (.invokevirtual 31, 3)) (hf : cells ≤ R.cells ∧ slots ≤ R.slots) (kk : W p l e R s m args below meth c H locs cells slots Q (F0 m (pc + 3) ls (.int (mo_even x1 x2) :: rest))) : W p l e R s m args below meth c H locs cells slots Q (F0 m pc ls (.int x2 :: .int x1 :: .ref h0 :: rest)) :=
  hm_call (As := [.int x1, .int x2]) S (mt_X1_even l h0 x1 x2) (cwV 2 S.2.2.2.2 (lw_V q148 q150 qs14 q19 q151) rfl rfl rfl (by decide +kernel) hR) (hm_preR hrv) rfl hsize rfl hW hdg hf kk
set_option maxHeartbeats 4000000 in
set_option maxRecDepth 100000 in
theorem mt_X1_codeOf (l : Launch) (h0 : Nat) (x1 : Int32) : Met l yX1_codeOf (ws_ yX1_codeOf cX1_codeOf 5 (some .int)) ({ frames := 2, cells := 0, slots := 0, locals := 46 }) (va_Pc [.ref h0, .int x1] (hm_rv RX1 h0)) (QcRead (mo_code x1)) 0 0 (fun _ => False) := by
  refine Met.ofW (cc := cX1_codeOf) (maxL := 5) (ret := (some .int)) (by decide) rfl ?_
  intro p e s m args below meth c s₁ B hml hv
  obtain ⟨rfl, hrv⟩ := hv
  have hx := B.exec
  have hb := B.bytes
  have hr := B.returns
  have hts := atoms_spec (ws := (ws_ yX1_codeOf cX1_codeOf 5 (some .int))) B.pre
  have hts : ∀ w ∈ lw_all, w.before _ s = true := fun w h => hts w (List.mem_cons_of_mem _ h)
  have hown : s.vm.findClass RX1 = some m.cls := findClass_of_methodNamed B.named
  have hlocks := B.notSynchronized
  have S : CallFix p m c cX1_codeOf 5 s _ lw_all RX1 := ⟨hx, hb, hml, hown, hts⟩
  have hl := lv_entry ([.ref h0, .int x1]) (n := 5) (Nat.le_of_ble_eq_true rfl)
  rw [lg_entry_eq]
  generalize (lg_sl ([.ref h0, .int x1]) ++ List.replicate (5 - (lg_sl ([.ref h0, .int x1])).length) Slot.unset).toArray = ls at hl ⊢
  have hl : lv_has ls 5 [(0, .ref h0), (1, .int x1)] := hl
  refine lv_iconst (v := 0) hx hb dX1_codeOf_0 (by decide) ?_
  refine lv_istore_n (lv' := [(2, .int 0), (0, .ref h0), (1, .int x1)]) hx hb dX1_codeOf_1 rfl hl (by decide) rfl (fun ls hl => ?_)
  refine lv_iconst (v := 0) hx hb dX1_codeOf_2 (by decide) ?_
  refine lv_istore_n (lv' := [(3, .int 0), (2, .int 0), (0, .ref h0), (1, .int x1)]) hx hb dX1_codeOf_3 rfl hl (by decide) rfl (fun ls hl => ?_)
  obtain ⟨T4, hT4⟩ : ∃ T, T = mo_codL x1 8 0 0 := ⟨_, rfl⟩
  have lp4 : ∀ (n4 : Nat) (x2_4 x3_4 : Int32), n4 ≤ 8 → x3_4 = nI (8 - n4) → mo_codL x1 n4 x2_4 x3_4 = T4 → ∀ ls : Array Slot, lv_has ls 5 [(3, .int x3_4), (2, .int x2_4), (0, .ref h0), (1, .int x1)] → W p l e (headSpec (ws_ yX1_codeOf cX1_codeOf 5 (some .int)) ({ frames := 2, cells := 0, slots := 0, locals := 46 })).room s m ([.ref h0, .int x1] : List Value).toArray below meth c s.heap [] 0 0 (MQ below (QcRead (mo_code x1)) ([.ref h0, .int x1] : List Value).toArray s 0 0 (fun _ => False)) (F0 m 4 ls []) := by
    intro n4
    induction n4 with
    | zero =>
      intro x2_4 x3_4 hn4 e4 hI4 ls hl
      refine lv_iload_n hx hb dX1_codeOf_4 rfl (lv_at hl 0 rfl) ?_
      refine lv_bipush (v := 8) hx hb dX1_codeOf_5 (by decide) ?_
      refine lv_icmp_ge (tgt := 35) hx hb dX1_codeOf_7 (by decide) (fun c7 => ?_) (fun c7 => ?_)
      · obtain rfl : x2_4 = mo_codL x1 8 0 0 := (show x2_4 = T4 from hI4).trans hT4
        refine lv_aload_n hx hb dX1_codeOf_35 rfl (lv_at hl 2 rfl) ?_
        refine lv_iload_n hx hb dX1_codeOf_36 rfl (lv_at hl 1 rfl) ?_
        refine lv_iconst (v := 1) hx hb dX1_codeOf_37 (by decide) ?_
        refine ca_X1_even S ⟨Nat.le_of_ble_eq_true rfl, Nat.le_of_ble_eq_true rfl⟩ hrv hl.1 (Nat.le_of_ble_eq_true rfl) dX1_codeOf_38 ⟨Nat.zero_le _, Nat.zero_le _⟩ ?_
        have j48 : ∀ (y48 : Int32), y48 = (mo_or (mo_codL x1 8 0 0) 1 2) → ∀ ls : Array Slot, lv_has ls 5 [(3, .int x3_4), (2, .int y48), (0, .ref h0), (1, .int x1)] → W p l e (headSpec (ws_ yX1_codeOf cX1_codeOf 5 (some .int)) ({ frames := 2, cells := 0, slots := 0, locals := 46 })).room s m ([.ref h0, .int x1] : List Value).toArray below meth c s.heap [] 0 0 (MQ below (QcRead (mo_code x1)) ([.ref h0, .int x1] : List Value).toArray s 0 0 (fun _ => False)) (F0 m 48 ls []) := by
          intro y48 hy48 ls hl
          subst hy48
          refine lv_aload_n hx hb dX1_codeOf_48 rfl (lv_at hl 2 rfl) ?_
          refine lv_iload_n hx hb dX1_codeOf_49 rfl (lv_at hl 1 rfl) ?_
          refine lv_iconst (v := 2) hx hb dX1_codeOf_50 (by decide) ?_
          refine ca_X1_even S ⟨Nat.le_of_ble_eq_true rfl, Nat.le_of_ble_eq_true rfl⟩ hrv hl.1 (Nat.le_of_ble_eq_true rfl) dX1_codeOf_51 ⟨Nat.zero_le _, Nat.zero_le _⟩ ?_
          have j61 : ∀ (y61 : Int32), y61 = (mo_or (mo_or (mo_codL x1 8 0 0) 1 2) 2 4) → ∀ ls : Array Slot, lv_has ls 5 [(3, .int x3_4), (2, .int y61), (0, .ref h0), (1, .int x1)] → W p l e (headSpec (ws_ yX1_codeOf cX1_codeOf 5 (some .int)) ({ frames := 2, cells := 0, slots := 0, locals := 46 })).room s m ([.ref h0, .int x1] : List Value).toArray below meth c s.heap [] 0 0 (MQ below (QcRead (mo_code x1)) ([.ref h0, .int x1] : List Value).toArray s 0 0 (fun _ => False)) (F0 m 61 ls []) := by
            intro y61 hy61 ls hl
            subst hy61
            refine lv_aload_n hx hb dX1_codeOf_61 rfl (lv_at hl 2 rfl) ?_
            refine lv_iload_n hx hb dX1_codeOf_62 rfl (lv_at hl 1 rfl) ?_
            refine lv_iconst (v := 4) hx hb dX1_codeOf_63 (by decide) ?_
            refine ca_X1_even S ⟨Nat.le_of_ble_eq_true rfl, Nat.le_of_ble_eq_true rfl⟩ hrv hl.1 (Nat.le_of_ble_eq_true rfl) dX1_codeOf_64 ⟨Nat.zero_le _, Nat.zero_le _⟩ ?_
            have j75 : ∀ (y75 : Int32), y75 = (mo_or (mo_or (mo_or (mo_codL x1 8 0 0) 1 2) 2 4) 4 16) → ∀ ls : Array Slot, lv_has ls 5 [(3, .int x3_4), (2, .int y75), (0, .ref h0), (1, .int x1)] → W p l e (headSpec (ws_ yX1_codeOf cX1_codeOf 5 (some .int)) ({ frames := 2, cells := 0, slots := 0, locals := 46 })).room s m ([.ref h0, .int x1] : List Value).toArray below meth c s.heap [] 0 0 (MQ below (QcRead (mo_code x1)) ([.ref h0, .int x1] : List Value).toArray s 0 0 (fun _ => False)) (F0 m 75 ls []) := by
              intro y75 hy75 ls hl
              subst hy75
              refine lv_aload_n hx hb dX1_codeOf_75 rfl (lv_at hl 2 rfl) ?_
              refine lv_iload_n hx hb dX1_codeOf_76 rfl (lv_at hl 1 rfl) ?_
              refine lv_bipush (v := 8) hx hb dX1_codeOf_77 (by decide) ?_
              refine ca_X1_even S ⟨Nat.le_of_ble_eq_true rfl, Nat.le_of_ble_eq_true rfl⟩ hrv hl.1 (Nat.le_of_ble_eq_true rfl) dX1_codeOf_79 ⟨Nat.zero_le _, Nat.zero_le _⟩ ?_
              have j91 : ∀ (y91 : Int32), y91 = (mo_or (mo_or (mo_or (mo_or (mo_codL x1 8 0 0) 1 2) 2 4) 4 16) 8 256) → ∀ ls : Array Slot, lv_has ls 5 [(3, .int x3_4), (2, .int y91), (0, .ref h0), (1, .int x1)] → W p l e (headSpec (ws_ yX1_codeOf cX1_codeOf 5 (some .int)) ({ frames := 2, cells := 0, slots := 0, locals := 46 })).room s m ([.ref h0, .int x1] : List Value).toArray below meth c s.heap [] 0 0 (MQ below (QcRead (mo_code x1)) ([.ref h0, .int x1] : List Value).toArray s 0 0 (fun _ => False)) (F0 m 91 ls []) := by
                intro y91 hy91 ls hl
                subst hy91
                refine lv_aload_n hx hb dX1_codeOf_91 rfl (lv_at hl 2 rfl) ?_
                refine lv_iload_n hx hb dX1_codeOf_92 rfl (lv_at hl 1 rfl) ?_
                refine lv_iconst (v := 0) hx hb dX1_codeOf_93 (by decide) ?_
                refine ca_X1_even S ⟨Nat.le_of_ble_eq_true rfl, Nat.le_of_ble_eq_true rfl⟩ hrv hl.1 (Nat.le_of_ble_eq_true rfl) dX1_codeOf_94 ⟨Nat.zero_le _, Nat.zero_le _⟩ ?_
                refine lv_if_eq (tgt := 104) hx hb dX1_codeOf_97 (by decide) (fun c97 => ?_) (fun c97 => ?_)
                · refine lv_iload_n hx hb dX1_codeOf_104 rfl (lv_at hl 1 rfl) ?_
                  refine lv_iconst (v := 1) hx hb dX1_codeOf_105 (by decide) ?_
                  refine lv_ior hx hb dX1_codeOf_106 ?_
                  exact hm_iret hx hb hr hlocks ((mo_or_t c97).symm) dX1_codeOf_107
                · refine lv_iload_n hx hb dX1_codeOf_100 rfl (lv_at hl 1 rfl) ?_
                  refine lv_goto (tgt := 107) hx hb dX1_codeOf_101 (by decide) ?_
                  exact hm_iret hx hb hr hlocks ((mo_or_f c97).symm) dX1_codeOf_107
              refine lv_if_ne (tgt := 91) hx hb dX1_codeOf_82 (by decide) (fun c82 => ?_) (fun c82 => ?_)
              · exact j91 (mo_or (mo_or (mo_or (mo_codL x1 8 0 0) 1 2) 2 4) 4 16) ((mo_or_f c82).symm) ls (lv_sub hl [0, 1, 2, 3] rfl)
              · refine lv_iload_n hx hb dX1_codeOf_85 rfl (lv_at hl 1 rfl) ?_
                refine lv_sipush (v := 256) hx hb dX1_codeOf_86 (by decide) ?_
                refine lv_ior hx hb dX1_codeOf_89 ?_
                refine lv_istore_n (lv' := [(2, .int ((mo_or (mo_or (mo_or (mo_codL x1 8 0 0) 1 2) 2 4) 4 16) ||| 256)), (3, .int x3_4), (0, .ref h0), (1, .int x1)]) hx hb dX1_codeOf_90 rfl hl (by decide) rfl (fun ls hl => ?_)
                exact j91 ((mo_or (mo_or (mo_or (mo_codL x1 8 0 0) 1 2) 2 4) 4 16) ||| 256) ((mo_or_t c82).symm) ls (lv_sub hl [1, 0, 2, 3] rfl)
            refine lv_if_ne (tgt := 75) hx hb dX1_codeOf_67 (by decide) (fun c67 => ?_) (fun c67 => ?_)
            · exact j75 (mo_or (mo_or (mo_codL x1 8 0 0) 1 2) 2 4) ((mo_or_f c67).symm) ls (lv_sub hl [0, 1, 2, 3] rfl)
            · refine lv_iload_n hx hb dX1_codeOf_70 rfl (lv_at hl 1 rfl) ?_
              refine lv_bipush (v := 16) hx hb dX1_codeOf_71 (by decide) ?_
              refine lv_ior hx hb dX1_codeOf_73 ?_
              refine lv_istore_n (lv' := [(2, .int ((mo_or (mo_or (mo_codL x1 8 0 0) 1 2) 2 4) ||| 16)), (3, .int x3_4), (0, .ref h0), (1, .int x1)]) hx hb dX1_codeOf_74 rfl hl (by decide) rfl (fun ls hl => ?_)
              exact j75 ((mo_or (mo_or (mo_codL x1 8 0 0) 1 2) 2 4) ||| 16) ((mo_or_t c67).symm) ls (lv_sub hl [1, 0, 2, 3] rfl)
          refine lv_if_ne (tgt := 61) hx hb dX1_codeOf_54 (by decide) (fun c54 => ?_) (fun c54 => ?_)
          · exact j61 (mo_or (mo_codL x1 8 0 0) 1 2) ((mo_or_f c54).symm) ls (lv_sub hl [0, 1, 2, 3] rfl)
          · refine lv_iload_n hx hb dX1_codeOf_57 rfl (lv_at hl 1 rfl) ?_
            refine lv_iconst (v := 4) hx hb dX1_codeOf_58 (by decide) ?_
            refine lv_ior hx hb dX1_codeOf_59 ?_
            refine lv_istore_n (lv' := [(2, .int ((mo_or (mo_codL x1 8 0 0) 1 2) ||| 4)), (3, .int x3_4), (0, .ref h0), (1, .int x1)]) hx hb dX1_codeOf_60 rfl hl (by decide) rfl (fun ls hl => ?_)
            exact j61 ((mo_or (mo_codL x1 8 0 0) 1 2) ||| 4) ((mo_or_t c54).symm) ls (lv_sub hl [1, 0, 2, 3] rfl)
        refine lv_if_ne (tgt := 48) hx hb dX1_codeOf_41 (by decide) (fun c41 => ?_) (fun c41 => ?_)
        · exact j48 (mo_codL x1 8 0 0) ((mo_or_f c41).symm) ls (lv_sub hl [0, 1, 2, 3] rfl)
        · refine lv_iload_n hx hb dX1_codeOf_44 rfl (lv_at hl 1 rfl) ?_
          refine lv_iconst (v := 2) hx hb dX1_codeOf_45 (by decide) ?_
          refine lv_ior hx hb dX1_codeOf_46 ?_
          refine lv_istore_n (lv' := [(2, .int ((mo_codL x1 8 0 0) ||| 2)), (3, .int x3_4), (0, .ref h0), (1, .int x1)]) hx hb dX1_codeOf_47 rfl hl (by decide) rfl (fun ls hl => ?_)
          exact j48 ((mo_codL x1 8 0 0) ||| 2) ((mo_or_t c41).symm) ls (lv_sub hl [1, 0, 2, 3] rfl)
      · exact absurd (hm_ge0 (N := 8) rfl e4) c7
    | succ n4 ih4 =>
      intro x2_4 x3_4 hn4 e4 hI4 ls hl
      refine lv_iload_n hx hb dX1_codeOf_4 rfl (lv_at hl 0 rfl) ?_
      refine lv_bipush (v := 8) hx hb dX1_codeOf_5 (by decide) ?_
      refine lv_icmp_ge (tgt := 35) hx hb dX1_codeOf_7 (by decide) (fun c7 => ?_) (fun c7 => ?_)
      · exact absurd c7 (hm_geS (N := 8) rfl (by decide) hn4 e4)
      · refine lv_aload_n hx hb dX1_codeOf_10 rfl (lv_at hl 2 rfl) ?_
        refine lv_iload_n hx hb dX1_codeOf_11 rfl (lv_at hl 0 rfl) ?_
        refine ca_X1_placeOf S ⟨Nat.le_of_ble_eq_true rfl, Nat.le_of_ble_eq_true rfl⟩ hrv hl.1 (Nat.le_of_ble_eq_true rfl) dX1_codeOf_12 ⟨Nat.zero_le _, Nat.zero_le _⟩ ?_
        refine lv_istore (lv' := [(4, .int (mo_pla x3_4)), (3, .int x3_4), (2, .int x2_4), (0, .ref h0), (1, .int x1)]) hx hb dX1_codeOf_15 hl (by decide) rfl (fun ls hl => ?_)
        refine lv_iload_n hx hb dX1_codeOf_17 rfl (lv_at hl 2 rfl) ?_
        refine lv_aload_n hx hb dX1_codeOf_18 rfl (lv_at hl 3 rfl) ?_
        refine lv_iload_n hx hb dX1_codeOf_19 rfl (lv_at hl 4 rfl) ?_
        refine lv_iload_n hx hb dX1_codeOf_20 rfl (lv_at hl 1 rfl) ?_
        refine ca_X1_bit S ⟨Nat.le_of_ble_eq_true rfl, Nat.le_of_ble_eq_true rfl⟩ hrv hl.1 (Nat.le_of_ble_eq_true rfl) dX1_codeOf_21 ⟨Nat.zero_le _, Nat.zero_le _⟩ ?_
        refine lv_iload hx hb dX1_codeOf_24 (lv_at hl 0 rfl) ?_
        refine lv_ishl hx hb dX1_codeOf_26 ?_
        refine lv_ior hx hb dX1_codeOf_27 ?_
        refine lv_istore_n (lv' := [(2, .int (x2_4 ||| ((mo_bit x1 x3_4) <<< ((mo_pla x3_4) &&& 31)))), (4, .int (mo_pla x3_4)), (3, .int x3_4), (0, .ref h0), (1, .int x1)]) hx hb dX1_codeOf_28 rfl hl (by decide) rfl (fun ls hl => ?_)
        refine lv_iinc (v := (x3_4 + 1)) (lv' := [(3, .int (x3_4 + 1)), (2, .int (x2_4 ||| ((mo_bit x1 x3_4) <<< ((mo_pla x3_4) &&& 31)))), (4, .int (mo_pla x3_4)), (0, .ref h0), (1, .int x1)]) hx hb dX1_codeOf_29 hl (k := 2) rfl rfl (by decide) rfl (fun ls hl => ?_)
        refine lv_goto (tgt := 4) hx hb dX1_codeOf_32 (by decide) ?_
        exact ih4 (x2_4 ||| ((mo_bit x1 x3_4) <<< ((mo_pla x3_4) &&& 31))) (x3_4 + 1) (Nat.le_of_succ_le hn4) (hm_nx hn4 e4) hI4 ls (lv_sub hl [0, 1, 3, 4] rfl)
  exact lp4 8 0 0 (by omega) (by decide) hT4.symm ls hl
set_option maxHeartbeats 4000000 in
theorem ca_X1_codeOf {p : Program} {l : Launch} {e : Env} {R : Room} {s : State} {m : MethodId} {args : Array Value} {below : List Frame} {meth : Method} {c : Code} {H : Heap} {locs : List Loc} {cells slots : Nat} {Q : State → Prop} {cc : ByteArray} {nL pc : Nat} {ls : Array Slot} {rest : List Value} {x1 : Int32} {h0 : Nat} (S : CallFix p m c cc nL s args lw_all RX1) (hR : 2 + 1 ≤ R.frames ∧ 8 + (5 + 11) + 46 ≤ R.locals) (hrv : ∃ cell : Cell, H[h0]? = some cell ∧ cell.vm.isStatics = false ∧ s.vm.findClass RX1 = some cell.cls) (hsize : ls.size = nL) (hW : (rest.map fun v => v.category).sum ≤ 8) (hdg : decode cc pc = .ok (.invokevirtual 20, 3)) (hf : cells ≤ R.cells ∧ slots ≤ R.slots) (kk : W p l e R s m args below meth c H locs cells slots Q (F0 m (pc + 3) ls (.int (mo_code x1) :: rest))) : W p l e R s m args below meth c H locs cells slots Q (F0 m pc ls (.int x1 :: .ref h0 :: rest)) :=
  hm_call (As := [.int x1]) S (mt_X1_codeOf l h0 x1) (cwV 1 S.2.2.2.2 (lw_V q136 q138 qs11 q19 q139) rfl rfl rfl (by decide +kernel) hR) (hm_preR hrv) rfl hsize rfl hW hdg hf kk
set_option maxHeartbeats 4000000 in
set_option maxRecDepth 100000 in
theorem mt_X1_isWord (l : Launch) (h0 : Nat) (x1 : Int32) : Met l yX1_isWord (ws_ yX1_isWord cX1_isWord 2 (some .boolean)) ({ frames := 0, cells := 0, slots := 0, locals := 0 }) (va_Pc [.ref h0, .int x1] (hm_rv RX1 h0)) (QcRead (hm_isWord x1)) 0 0 (fun _ => False) := by
  refine Met.ofW (cc := cX1_isWord) (maxL := 2) (ret := (some .boolean)) (by decide) rfl ?_
  intro p e s m args below meth c s₁ B hml hv
  obtain ⟨rfl, hrv⟩ := hv
  have hx := B.exec
  have hb := B.bytes
  have hr := B.returns
  have hts := atoms_spec (ws := (ws_ yX1_isWord cX1_isWord 2 (some .boolean))) B.pre
  have hts : ∀ w ∈ lw_all, w.before _ s = true := fun w h => hts w (List.mem_cons_of_mem _ h)
  have hown : s.vm.findClass RX1 = some m.cls := findClass_of_methodNamed B.named
  have hlocks := B.notSynchronized
  have S : CallFix p m c cX1_isWord 2 s _ lw_all RX1 := ⟨hx, hb, hml, hown, hts⟩
  have hl := lv_entry ([.ref h0, .int x1]) (n := 2) (Nat.le_of_ble_eq_true rfl)
  rw [lg_entry_eq]
  generalize (lg_sl ([.ref h0, .int x1]) ++ List.replicate (2 - (lg_sl ([.ref h0, .int x1])).length) Slot.unset).toArray = ls at hl ⊢
  have hl : lv_has ls 2 [(0, .ref h0), (1, .int x1)] := hl
  refine lv_iload_n hx hb dX1_isWord_0 rfl (lv_at hl 1 rfl) ?_
  refine lv_if_lt (tgt := 14) hx hb dX1_isWord_1 (by decide) (fun c1 => ?_) (fun c1 => ?_)
  · refine lv_iconst (v := 0) hx hb dX1_isWord_14 (by decide) ?_
    exact hm_zret hx hb hr hlocks rfl (by rw [hm_isWord, if_pos c1]) dX1_isWord_15
  · refine lv_iload_n hx hb dX1_isWord_4 rfl (lv_at hl 1 rfl) ?_
    refine lv_bipush (v := 15) hx hb dX1_isWord_5 (by decide) ?_
    refine lv_icmp_gt (tgt := 14) hx hb dX1_isWord_7 (by decide) (fun c7 => ?_) (fun c7 => ?_)
    · refine lv_iconst (v := 0) hx hb dX1_isWord_14 (by decide) ?_
      exact hm_zret hx hb hr hlocks rfl (by rw [hm_isWord, if_neg c1, if_pos c7]) dX1_isWord_15
    · refine lv_iconst (v := 1) hx hb dX1_isWord_10 (by decide) ?_
      refine lv_goto (tgt := 15) hx hb dX1_isWord_11 (by decide) ?_
      exact hm_zret hx hb hr hlocks rfl (by rw [hm_isWord, if_neg c1, if_neg c7]) dX1_isWord_15
set_option maxHeartbeats 4000000 in
theorem ca_X1_isWord {p : Program} {l : Launch} {e : Env} {R : Room} {s : State} {m : MethodId} {args : Array Value} {below : List Frame} {meth : Method} {c : Code} {H : Heap} {locs : List Loc} {cells slots : Nat} {Q : State → Prop} {cc : ByteArray} {nL pc : Nat} {ls : Array Slot} {rest : List Value} {x1 : Int32} {h0 : Nat} (S : CallFix p m c cc nL s args lw_all RX1) (hR : 0 + 1 ≤ R.frames ∧ 8 + (2 + 11) + 0 ≤ R.locals) (hrv : ∃ cell : Cell, H[h0]? = some cell ∧ cell.vm.isStatics = false ∧ s.vm.findClass RX1 = some cell.cls) (hsize : ls.size = nL) (hW : (rest.map fun v => v.category).sum ≤ 8) (hdg : decode cc pc = .ok (.invokevirtual 35, 3)) (hf : cells ≤ R.cells ∧ slots ≤ R.slots) (kk : W p l e R s m args below meth c H locs cells slots Q (F0 m (pc + 3) ls (.int (hm_isWord x1) :: rest))) : W p l e R s m args below meth c H locs cells slots Q (F0 m pc ls (.int x1 :: .ref h0 :: rest)) :=
  hm_call (As := [.int x1]) S (mt_X1_isWord l h0 x1) (cwV 1 S.2.2.2.2 (lw_V q167 q169 qs15 q19 q170) rfl rfl rfl (by decide +kernel) hR) (hm_preR hrv) rfl hsize rfl hW hdg hf kk
set_option maxHeartbeats 4000000 in
set_option maxRecDepth 100000 in
theorem mt_X1_apart (l : Launch) (h0 : Nat) (x1 : Int32) (x2 : Int32) : Met l yX1_apart (ws_ yX1_apart cX1_apart 5 (some .int)) ({ frames := 1, cells := 0, slots := 0, locals := 22 }) (va_Pc [.ref h0, .int x1, .int x2] (hm_rv RX1 h0)) (QcRead (mo_ap x1 x2)) 0 0 (fun _ => False) := by
  refine Met.ofW (cc := cX1_apart) (maxL := 5) (ret := (some .int)) (by decide) rfl ?_
  intro p e s m args below meth c s₁ B hml hv
  obtain ⟨rfl, hrv⟩ := hv
  have hx := B.exec
  have hb := B.bytes
  have hr := B.returns
  have hts := atoms_spec (ws := (ws_ yX1_apart cX1_apart 5 (some .int))) B.pre
  have hts : ∀ w ∈ lw_all, w.before _ s = true := fun w h => hts w (List.mem_cons_of_mem _ h)
  have hown : s.vm.findClass RX1 = some m.cls := findClass_of_methodNamed B.named
  have hlocks := B.notSynchronized
  have S : CallFix p m c cX1_apart 5 s _ lw_all RX1 := ⟨hx, hb, hml, hown, hts⟩
  have hl := lv_entry ([.ref h0, .int x1, .int x2]) (n := 5) (Nat.le_of_ble_eq_true rfl)
  rw [lg_entry_eq]
  generalize (lg_sl ([.ref h0, .int x1, .int x2]) ++ List.replicate (5 - (lg_sl ([.ref h0, .int x1, .int x2])).length) Slot.unset).toArray = ls at hl ⊢
  have hl : lv_has ls 5 [(0, .ref h0), (1, .int x1), (2, .int x2)] := hl
  refine lv_iconst (v := 0) hx hb dX1_apart_0 (by decide) ?_
  refine lv_istore_n (lv' := [(3, .int 0), (0, .ref h0), (1, .int x1), (2, .int x2)]) hx hb dX1_apart_1 rfl hl (by decide) rfl (fun ls hl => ?_)
  refine lv_iconst (v := 0) hx hb dX1_apart_2 (by decide) ?_
  refine lv_istore (lv' := [(4, .int 0), (3, .int 0), (0, .ref h0), (1, .int x1), (2, .int x2)]) hx hb dX1_apart_3 hl (by decide) rfl (fun ls hl => ?_)
  obtain ⟨T5, hT5⟩ : ∃ T, T = mo_apL x1 x2 13 0 0 := ⟨_, rfl⟩
  have lp5 : ∀ (n5 : Nat) (x3_5 x4_5 : Int32), n5 ≤ 13 → x4_5 = nI (13 - n5) → mo_apL x1 x2 n5 x3_5 x4_5 = T5 → ∀ ls : Array Slot, lv_has ls 5 [(4, .int x4_5), (3, .int x3_5), (0, .ref h0), (1, .int x1), (2, .int x2)] → W p l e (headSpec (ws_ yX1_apart cX1_apart 5 (some .int)) ({ frames := 1, cells := 0, slots := 0, locals := 22 })).room s m ([.ref h0, .int x1, .int x2] : List Value).toArray below meth c s.heap [] 0 0 (MQ below (QcRead (mo_ap x1 x2)) ([.ref h0, .int x1, .int x2] : List Value).toArray s 0 0 (fun _ => False)) (F0 m 5 ls []) := by
    intro n5
    induction n5 with
    | zero =>
      intro x3_5 x4_5 hn5 e5 hI5 ls hl
      refine lv_iload hx hb dX1_apart_5 (lv_at hl 0 rfl) ?_
      refine lv_bipush (v := 12) hx hb dX1_apart_7 (by decide) ?_
      refine lv_icmp_gt (tgt := 38) hx hb dX1_apart_9 (by decide) (fun c9 => ?_) (fun c9 => ?_)
      · obtain rfl : x3_5 = mo_apL x1 x2 13 0 0 := (show x3_5 = T5 from hI5).trans hT5
        refine lv_iload_n hx hb dX1_apart_38 rfl (lv_at hl 1 rfl) ?_
        exact hm_iret hx hb hr hlocks (by rw [mo_ap]) dX1_apart_39
      · exact absurd (hm_gt0 (N := 12) rfl (by decide) e5) c9
    | succ n5 ih5 =>
      intro x3_5 x4_5 hn5 e5 hI5 ls hl
      refine lv_iload hx hb dX1_apart_5 (lv_at hl 0 rfl) ?_
      refine lv_bipush (v := 12) hx hb dX1_apart_7 (by decide) ?_
      refine lv_icmp_gt (tgt := 38) hx hb dX1_apart_9 (by decide) (fun c9 => ?_) (fun c9 => ?_)
      · exact absurd c9 (hm_gtS (N := 12) rfl (by decide) hn5 e5)
      · refine lv_aload_n hx hb dX1_apart_12 rfl (lv_at hl 2 rfl) ?_
        refine lv_iload_n hx hb dX1_apart_13 rfl (lv_at hl 3 rfl) ?_
        refine lv_iload hx hb dX1_apart_14 (lv_at hl 0 rfl) ?_
        refine ca_X1_bit S ⟨Nat.le_of_ble_eq_true rfl, Nat.le_of_ble_eq_true rfl⟩ hrv hl.1 (Nat.le_of_ble_eq_true rfl) dX1_apart_16 ⟨Nat.zero_le _, Nat.zero_le _⟩ ?_
        refine lv_aload_n hx hb dX1_apart_19 rfl (lv_at hl 2 rfl) ?_
        refine lv_iload_n hx hb dX1_apart_20 rfl (lv_at hl 4 rfl) ?_
        refine lv_iload hx hb dX1_apart_21 (lv_at hl 0 rfl) ?_
        refine ca_X1_bit S ⟨Nat.le_of_ble_eq_true rfl, Nat.le_of_ble_eq_true rfl⟩ hrv hl.1 (Nat.le_of_ble_eq_true rfl) dX1_apart_23 ⟨Nat.zero_le _, Nat.zero_le _⟩ ?_
        refine lv_icmp_eq (tgt := 32) hx hb dX1_apart_26 (by decide) (fun c26 => ?_) (fun c26 => ?_)
        · refine lv_iinc (v := (x4_5 + 1)) (lv' := [(4, .int (x4_5 + 1)), (3, .int x3_5), (0, .ref h0), (1, .int x1), (2, .int x2)]) hx hb dX1_apart_32 hl (k := 0) rfl rfl (by decide) rfl (fun ls hl => ?_)
          refine lv_goto (tgt := 5) hx hb dX1_apart_35 (by decide) ?_
          exact ih5 x3_5 (x4_5 + 1) (Nat.le_of_succ_le hn5) (hm_nx hn5 e5) (by rw [mo_apL, if_pos c26] at hI5; exact hI5) ls (lv_sub hl [0, 1, 2, 3, 4] rfl)
        · refine lv_iinc (v := (x3_5 + 1)) (lv' := [(3, .int (x3_5 + 1)), (4, .int x4_5), (0, .ref h0), (1, .int x1), (2, .int x2)]) hx hb dX1_apart_29 hl (k := 1) rfl rfl (by decide) rfl (fun ls hl => ?_)
          refine lv_iinc (v := (x4_5 + 1)) (lv' := [(4, .int (x4_5 + 1)), (3, .int (x3_5 + 1)), (0, .ref h0), (1, .int x1), (2, .int x2)]) hx hb dX1_apart_32 hl (k := 1) rfl rfl (by decide) rfl (fun ls hl => ?_)
          refine lv_goto (tgt := 5) hx hb dX1_apart_35 (by decide) ?_
          exact ih5 (x3_5 + 1) (x4_5 + 1) (Nat.le_of_succ_le hn5) (hm_nx hn5 e5) (by rw [mo_apL, if_neg c26] at hI5; exact hI5) ls (lv_sub hl [0, 1, 2, 3, 4] rfl)
  exact lp5 13 0 0 (by omega) (by decide) hT5.symm ls hl
set_option maxHeartbeats 4000000 in
theorem ca_X1_apart {p : Program} {l : Launch} {e : Env} {R : Room} {s : State} {m : MethodId} {args : Array Value} {below : List Frame} {meth : Method} {c : Code} {H : Heap} {locs : List Loc} {cells slots : Nat} {Q : State → Prop} {cc : ByteArray} {nL pc : Nat} {ls : Array Slot} {rest : List Value} {x1 x2 : Int32} {h0 : Nat} (S : CallFix p m c cc nL s args lw_all RX1) (hR : 1 + 1 ≤ R.frames ∧ 8 + (5 + 11) + 22 ≤ R.locals) (hrv : ∃ cell : Cell, H[h0]? = some cell ∧ cell.vm.isStatics = false ∧ s.vm.findClass RX1 = some cell.cls) (hsize : ls.size = nL) (hW : (rest.map fun v => v.category).sum ≤ 8) (hdg : decode cc pc = .ok (.invokevirtual 39, 3)) (hf : cells ≤ R.cells ∧ slots ≤ R.slots) (kk : W p l e R s m args below meth c H locs cells slots Q (F0 m (pc + 3) ls (.int (mo_ap x1 x2) :: rest))) : W p l e R s m args below meth c H locs cells slots Q (F0 m pc ls (.int x2 :: .int x1 :: .ref h0 :: rest)) :=
  hm_call (As := [.int x1, .int x2]) S (mt_X1_apart l h0 x1 x2) (cwV 2 S.2.2.2.2 (lw_V q179 q181 qs16 q19 q182) rfl rfl rfl (by decide +kernel) hR) (hm_preR hrv) rfl hsize rfl hW hdg hf kk
end
section
set_option maxHeartbeats 4000000 in
set_option maxRecDepth 100000 in
theorem mt_X1_read (l : Launch) (D : va_G) (h0 hw hc : Nat) (dW dK : ClassId) (f g : Nat → Int32) (h : Int32) (x1 : Int32) : Met l yX1_read (ws_ yX1_read cX1_read 3 (some .int)) ({ frames := 2, cells := 0, slots := 0, locals := 46 }) (va_Pc [.ref h0, .int x1] (hm_ro D [(h0, .inr (1, [.ref hw, .ref hc, .int (h)])), (hw, .inl (dW, 16, .inl (f))), (hc, .inl (dK, 256, .inl (g)))] [(dW, .int), (dK, .int)])) (QcRead (mo_read f g x1)) 0 0 (fun _ => False) := by
  refine Met.ofW (cc := cX1_read) (maxL := 3) (ret := (some .int)) (by decide) rfl ?_
  intro p e s m args below meth c s₁ B hml hv
  obtain ⟨rfl, hP, hK⟩ := hv
  have hrv := va_recv hK hP (ci := 1) (q0 := 0) rfl rfl
  have hx := B.exec
  have hb := B.bytes
  have hr := B.returns
  have hts := atoms_spec (ws := (ws_ yX1_read cX1_read 3 (some .int))) B.pre
  have hts : ∀ w ∈ lw_all, w.before _ s = true := fun w h => hts w (List.mem_cons_of_mem _ h)
  have hown : s.vm.findClass RX1 = some m.cls := findClass_of_methodNamed B.named
  have hlocks := B.notSynchronized
  have S : CallFix p m c cX1_read 3 s _ lw_all RX1 := ⟨hx, hb, hml, hown, hts⟩
  have hl := lv_entry ([.ref h0, .int x1]) (n := 3) (Nat.le_of_ble_eq_true rfl)
  rw [lg_entry_eq]
  generalize (lg_sl ([.ref h0, .int x1]) ++ List.replicate (3 - (lg_sl ([.ref h0, .int x1])).length) Slot.unset).toArray = ls at hl ⊢
  have hl : lv_has ls 3 [(0, .ref h0), (1, .int x1)] := hl
  refine lv_aload_n hx hb dX1_read_0 rfl (lv_at hl 0 rfl) ?_
  refine lv_iload_n hx hb dX1_read_1 rfl (lv_at hl 1 rfl) ?_
  refine ca_X1_isWord S ⟨Nat.le_of_ble_eq_true rfl, Nat.le_of_ble_eq_true rfl⟩ hrv hl.1 (Nat.le_of_ble_eq_true rfl) dX1_read_2 ⟨Nat.zero_le _, Nat.zero_le _⟩ ?_
  refine lv_if_ne (tgt := 10) hx hb dX1_read_5 (by decide) (fun c5 => ?_) (fun c5 => ?_)
  · refine lv_iconst (v := 0) hx hb dX1_read_10 (by decide) ?_
    refine lv_istore_n (lv' := [(2, .int 0), (0, .ref h0), (1, .int x1)]) hx hb dX1_read_11 rfl hl (by decide) rfl (fun ls hl => ?_)
    obtain ⟨T12, hT12⟩ : ∃ T, T = mo_readL (f x1.toNatClampNeg) g 256 0 := ⟨_, rfl⟩
    have lp12 : ∀ (n12 : Nat) (x2_12 : Int32), n12 ≤ 256 → x2_12 = nI (256 - n12) → mo_readL (f x1.toNatClampNeg) g n12 x2_12 = T12 → ∀ ls : Array Slot, lv_has ls 3 [(2, .int x2_12), (0, .ref h0), (1, .int x1)] → W p l e (headSpec (ws_ yX1_read cX1_read 3 (some .int)) ({ frames := 2, cells := 0, slots := 0, locals := 46 })).room s m ([.ref h0, .int x1] : List Value).toArray below meth c s.heap [] 0 0 (MQ below (QcRead (mo_read f g x1)) ([.ref h0, .int x1] : List Value).toArray s 0 0 (fun _ => False)) (F0 m 12 ls []) := by
      intro n12
      induction n12 with
      | zero =>
        intro x2_12 hn12 e12 hI12 ls hl
        refine lv_iload_n hx hb dX1_read_12 rfl (lv_at hl 0 rfl) ?_
        refine lv_sipush (v := 256) hx hb dX1_read_13 (by decide) ?_
        refine lv_icmp_ge (tgt := 47) hx hb dX1_read_16 (by decide) (fun c16 => ?_) (fun c16 => ?_)
        · refine lv_bipush (v := -2) hx hb dX1_read_47 (by decide) ?_
          exact hm_iret hx hb hr hlocks (by have h9 : (-2) = T12 := hI12; rw [h9, hT12, mo_read, if_neg c5]) dX1_read_49
        · exact absurd (hm_ge0 (N := 256) rfl e12) c16
      | succ n12 ih12 =>
        intro x2_12 hn12 e12 hI12 ls hl
        refine lv_iload_n hx hb dX1_read_12 rfl (lv_at hl 0 rfl) ?_
        refine lv_sipush (v := 256) hx hb dX1_read_13 (by decide) ?_
        refine lv_icmp_ge (tgt := 47) hx hb dX1_read_16 (by decide) (fun c16 => ?_) (fun c16 => ?_)
        · exact absurd c16 (hm_geS (N := 256) rfl (by decide) hn12 e12)
        · refine lv_aload_n hx hb dX1_read_19 rfl (lv_at hl 1 rfl) ?_
          refine lv_aload_n hx hb dX1_read_20 rfl (lv_at hl 1 rfl) ?_
          refine va_get (D := D) (ci := 1) (v := .ref hw) (C := RX1) (T := TX1) (N := 3) hx hb hts in_X1 hown hK hP 0 rfl rfl 0 (by decide) (hts _ q152) (fun _ h9 => h9) rfl dX1_read_21 ?_
          refine lv_iload_n hx hb dX1_read_24 rfl (lv_at hl 2 rfl) ?_
          refine va_iald hx hb hK hP 1 0 rfl rfl (hm_isWord_in c5) dX1_read_25 ?_
          refine lv_aload_n hx hb dX1_read_26 rfl (lv_at hl 1 rfl) ?_
          refine va_get (D := D) (ci := 1) (v := .ref hc) (C := RX1) (T := TX1) (N := 3) hx hb hts in_X1 hown hK hP 0 rfl rfl 1 (by decide) (hts _ q153) (fun _ h9 => h9) rfl dX1_read_27 ?_
          refine lv_iload_n hx hb dX1_read_30 rfl (lv_at hl 0 rfl) ?_
          refine va_iald hx hb hK hP 2 1 rfl rfl (hm_in (N := 256) (by decide) hn12 e12) dX1_read_31 ?_
          refine ca_X1_apart S ⟨Nat.le_of_ble_eq_true rfl, Nat.le_of_ble_eq_true rfl⟩ hrv hl.1 (Nat.le_of_ble_eq_true rfl) dX1_read_32 ⟨Nat.zero_le _, Nat.zero_le _⟩ ?_
          refine lv_iconst (v := 1) hx hb dX1_read_35 (by decide) ?_
          refine lv_icmp_gt (tgt := 41) hx hb dX1_read_36 (by decide) (fun c36 => ?_) (fun c36 => ?_)
          · refine lv_iinc (v := (x2_12 + 1)) (lv' := [(2, .int (x2_12 + 1)), (0, .ref h0), (1, .int x1)]) hx hb dX1_read_41 hl (k := 0) rfl rfl (by decide) rfl (fun ls hl => ?_)
            refine lv_goto (tgt := 12) hx hb dX1_read_44 (by decide) ?_
            exact ih12 (x2_12 + 1) (Nat.le_of_succ_le hn12) (hm_nx hn12 e12) (by rw [mo_readL, if_pos c36] at hI12; exact hI12) ls (lv_sub hl [0, 1, 2] rfl)
          · refine lv_iload_n hx hb dX1_read_39 rfl (lv_at hl 0 rfl) ?_
            exact hm_iret hx hb hr hlocks (by rw [mo_readL, if_neg c36] at hI12; rw [hI12, hT12, mo_read, if_neg c5]) dX1_read_40
    exact lp12 256 0 (by omega) (by decide) hT12.symm ls hl
  · refine lv_iconst (v := -1) hx hb dX1_read_8 (by decide) ?_
    exact hm_iret hx hb hr hlocks (by rw [mo_read, if_pos c5]) dX1_read_9
set_option maxHeartbeats 4000000 in
theorem ca_X1_read {p : Program} {l : Launch} {e : Env} {R : Room} {s : State} {m : MethodId} {args : Array Value} {below : List Frame} {meth : Method} {c : Code} {H : Heap} {locs : List Loc} {cells slots : Nat} {Q : State → Prop} {cc : ByteArray} {nL pc : Nat} {ls : Array Slot} {rest : List Value} {x1 : Int32} {D : va_G} {h0 hw hc : Nat} {dW dK : ClassId} {f g : Nat → Int32} {h : Int32} (S : CallFix p m c cc nL s args lw_all RX1) (hR : 2 + 1 ≤ R.frames ∧ 8 + (3 + 11) + 46 ≤ R.locals) (hK : va_K D vwCl [(dW, .int), (dK, .int)] s) (hP : va_P D vwCl [(h0, .inr (1, [.ref hw, .ref hc, .int (h)])), (hw, .inl (dW, 16, .inl (f))), (hc, .inl (dK, 256, .inl (g)))] H) (hsize : ls.size = nL) (hW : (rest.map fun v => v.category).sum ≤ 8) (hdg : decode cc pc = .ok (.invokevirtual 42, 3)) (hf : cells ≤ R.cells ∧ slots ≤ R.slots) (kk : W p l e R s m args below meth c H locs cells slots Q (F0 m (pc + 3) ls (.int (mo_read f g x1) :: rest))) : W p l e R s m args below meth c H locs cells slots Q (F0 m pc ls (.int x1 :: .ref h0 :: rest)) :=
  hm_call (As := [.int x1]) S (mt_X1_read l D h0 hw hc dW dK f g h x1) (cwV 1 S.2.2.2.2 (lw_V q187 q176 q177 q19 q178) rfl rfl rfl (by decide +kernel) hR) (hm_preW (ci := 1) hK hP rfl rfl) rfl hsize rfl hW hdg hf kk
set_option maxHeartbeats 4000000 in
set_option maxRecDepth 100000 in
theorem mt_X1_raw (l : Launch) (D : va_G) (h0 hw hc : Nat) (dW dK : ClassId) (f g : Nat → Int32) (h : Int32) (x1 : Int32) : Met l yX1_raw (ws_ yX1_raw cX1_raw 2 (some .int)) ({ frames := 1, cells := 0, slots := 0, locals := 21 }) (va_Pc [.ref h0, .int x1] (hm_ro D [(h0, .inr (1, [.ref hw, .ref hc, .int (h)])), (hw, .inl (dW, 16, .inl (f))), (hc, .inl (dK, 256, .inl (g)))] [(dW, .int), (dK, .int)])) (QcRead (hm_raw f x1)) 0 0 (fun _ => False) := by
  refine Met.ofW (cc := cX1_raw) (maxL := 2) (ret := (some .int)) (by decide) rfl ?_
  intro p e s m args below meth c s₁ B hml hv
  obtain ⟨rfl, hP, hK⟩ := hv
  have hrv := va_recv hK hP (ci := 1) (q0 := 0) rfl rfl
  have hx := B.exec
  have hb := B.bytes
  have hr := B.returns
  have hts := atoms_spec (ws := (ws_ yX1_raw cX1_raw 2 (some .int))) B.pre
  have hts : ∀ w ∈ lw_all, w.before _ s = true := fun w h => hts w (List.mem_cons_of_mem _ h)
  have hown : s.vm.findClass RX1 = some m.cls := findClass_of_methodNamed B.named
  have hlocks := B.notSynchronized
  have S : CallFix p m c cX1_raw 2 s _ lw_all RX1 := ⟨hx, hb, hml, hown, hts⟩
  have hl := lv_entry ([.ref h0, .int x1]) (n := 2) (Nat.le_of_ble_eq_true rfl)
  rw [lg_entry_eq]
  generalize (lg_sl ([.ref h0, .int x1]) ++ List.replicate (2 - (lg_sl ([.ref h0, .int x1])).length) Slot.unset).toArray = ls at hl ⊢
  have hl : lv_has ls 2 [(0, .ref h0), (1, .int x1)] := hl
  refine lv_aload_n hx hb dX1_raw_0 rfl (lv_at hl 0 rfl) ?_
  refine lv_iload_n hx hb dX1_raw_1 rfl (lv_at hl 1 rfl) ?_
  refine ca_X1_isWord S ⟨Nat.le_of_ble_eq_true rfl, Nat.le_of_ble_eq_true rfl⟩ hrv hl.1 (Nat.le_of_ble_eq_true rfl) dX1_raw_2 ⟨Nat.zero_le _, Nat.zero_le _⟩ ?_
  refine lv_if_eq (tgt := 17) hx hb dX1_raw_5 (by decide) (fun c5 => ?_) (fun c5 => ?_)
  · refine lv_iconst (v := -1) hx hb dX1_raw_17 (by decide) ?_
    exact hm_iret hx hb hr hlocks (by rw [hm_raw, if_pos c5]) dX1_raw_18
  · refine lv_aload_n hx hb dX1_raw_8 rfl (lv_at hl 0 rfl) ?_
    refine va_get (D := D) (ci := 1) (v := .ref hw) (C := RX1) (T := TX1) (N := 3) hx hb hts in_X1 hown hK hP 0 rfl rfl 0 (by decide) (hts _ q152) (fun _ h9 => h9) rfl dX1_raw_9 ?_
    refine lv_iload_n hx hb dX1_raw_12 rfl (lv_at hl 1 rfl) ?_
    refine va_iald hx hb hK hP 1 0 rfl rfl (hm_isWord_in c5) dX1_raw_13 ?_
    refine lv_goto (tgt := 18) hx hb dX1_raw_14 (by decide) ?_
    exact hm_iret hx hb hr hlocks (by rw [hm_raw, if_neg c5]) dX1_raw_18
set_option maxHeartbeats 4000000 in
set_option maxRecDepth 100000 in
theorem mt_X1_hand (l : Launch) (D : va_G) (h0 hw hc : Nat) (dW dK : ClassId) (f g : Nat → Int32) (h : Int32) : Met l yX1_hand (ws_ yX1_hand cX1_hand 1 (some .int)) ({ frames := 0, cells := 0, slots := 0, locals := 0 }) (va_Pc [.ref h0] (hm_ro D [(h0, .inr (1, [.ref hw, .ref hc, .int (h)])), (hw, .inl (dW, 16, .inl (f))), (hc, .inl (dK, 256, .inl (g)))] [(dW, .int), (dK, .int)])) (QcRead (h)) 0 0 (fun _ => False) := by
  refine Met.ofW (cc := cX1_hand) (maxL := 1) (ret := (some .int)) (by decide) rfl ?_
  intro p e s m args below meth c s₁ B hml hv
  obtain ⟨rfl, hP, hK⟩ := hv
  have hrv := va_recv hK hP (ci := 1) (q0 := 0) rfl rfl
  have hx := B.exec
  have hb := B.bytes
  have hr := B.returns
  have hts := atoms_spec (ws := (ws_ yX1_hand cX1_hand 1 (some .int))) B.pre
  have hts : ∀ w ∈ lw_all, w.before _ s = true := fun w h => hts w (List.mem_cons_of_mem _ h)
  have hown : s.vm.findClass RX1 = some m.cls := findClass_of_methodNamed B.named
  have hlocks := B.notSynchronized
  have S : CallFix p m c cX1_hand 1 s _ lw_all RX1 := ⟨hx, hb, hml, hown, hts⟩
  have hl := lv_entry ([.ref h0]) (n := 1) (Nat.le_of_ble_eq_true rfl)
  rw [lg_entry_eq]
  generalize (lg_sl ([.ref h0]) ++ List.replicate (1 - (lg_sl ([.ref h0])).length) Slot.unset).toArray = ls at hl ⊢
  have hl : lv_has ls 1 [(0, .ref h0)] := hl
  refine lv_aload_n hx hb dX1_hand_0 rfl (lv_at hl 0 rfl) ?_
  refine va_get (D := D) (ci := 1) (v := .int h) (C := RX1) (T := TX1) (N := 3) hx hb hts in_X1 hown hK hP 0 rfl rfl 2 (by decide) (hts _ q154) (fun _ h9 => h9) rfl dX1_hand_1 ?_
  exact hm_iret hx hb hr hlocks (by rw [(rfl : h = h)]) dX1_hand_4
set_option maxHeartbeats 4000000 in
set_option maxRecDepth 100000 in
theorem mt_X1_broken (l : Launch) (D : va_G) (h0 hw hc : Nat) (dW dK : ClassId) (f g : Nat → Int32) (h : Int32) : Met l yX1_broken (ws_ yX1_broken cX1_broken 3 (some .int)) ({ frames := 3, cells := 0, slots := 0, locals := 68 }) (va_Pc [.ref h0] (hm_ro D [(h0, .inr (1, [.ref hw, .ref hc, .int (h)])), (hw, .inl (dW, 16, .inl (f))), (hc, .inl (dK, 256, .inl (g)))] [(dW, .int), (dK, .int)])) (QcRead (mo_brk f g)) 0 0 (fun _ => False) := by
  refine Met.ofW (cc := cX1_broken) (maxL := 3) (ret := (some .int)) (by decide) rfl ?_
  intro p e s m args below meth c s₁ B hml hv
  obtain ⟨rfl, hP, hK⟩ := hv
  have hrv := va_recv hK hP (ci := 1) (q0 := 0) rfl rfl
  have hx := B.exec
  have hb := B.bytes
  have hr := B.returns
  have hts := atoms_spec (ws := (ws_ yX1_broken cX1_broken 3 (some .int))) B.pre
  have hts : ∀ w ∈ lw_all, w.before _ s = true := fun w h => hts w (List.mem_cons_of_mem _ h)
  have hown : s.vm.findClass RX1 = some m.cls := findClass_of_methodNamed B.named
  have hlocks := B.notSynchronized
  have S : CallFix p m c cX1_broken 3 s _ lw_all RX1 := ⟨hx, hb, hml, hown, hts⟩
  have hl := lv_entry ([.ref h0]) (n := 3) (Nat.le_of_ble_eq_true rfl)
  rw [lg_entry_eq]
  generalize (lg_sl ([.ref h0]) ++ List.replicate (3 - (lg_sl ([.ref h0])).length) Slot.unset).toArray = ls at hl ⊢
  have hl : lv_has ls 3 [(0, .ref h0)] := hl
  refine lv_iconst (v := 0) hx hb dX1_broken_0 (by decide) ?_
  refine lv_istore_n (lv' := [(1, .int 0), (0, .ref h0)]) hx hb dX1_broken_1 rfl hl (by decide) rfl (fun ls hl => ?_)
  refine lv_iconst (v := 0) hx hb dX1_broken_2 (by decide) ?_
  refine lv_istore_n (lv' := [(2, .int 0), (1, .int 0), (0, .ref h0)]) hx hb dX1_broken_3 rfl hl (by decide) rfl (fun ls hl => ?_)
  obtain ⟨T4, hT4⟩ : ∃ T, T = mo_brkL f g 16 0 0 := ⟨_, rfl⟩
  have lp4 : ∀ (n4 : Nat) (x1_4 x2_4 : Int32), n4 ≤ 16 → x2_4 = nI (16 - n4) → mo_brkL f g n4 x1_4 x2_4 = T4 → ∀ ls : Array Slot, lv_has ls 3 [(2, .int x2_4), (1, .int x1_4), (0, .ref h0)] → W p l e (headSpec (ws_ yX1_broken cX1_broken 3 (some .int)) ({ frames := 3, cells := 0, slots := 0, locals := 68 })).room s m ([.ref h0] : List Value).toArray below meth c s.heap [] 0 0 (MQ below (QcRead (mo_brk f g)) ([.ref h0] : List Value).toArray s 0 0 (fun _ => False)) (F0 m 4 ls []) := by
    intro n4
    induction n4 with
    | zero =>
      intro x1_4 x2_4 hn4 e4 hI4 ls hl
      refine lv_iload_n hx hb dX1_broken_4 rfl (lv_at hl 0 rfl) ?_
      refine lv_bipush (v := 16) hx hb dX1_broken_5 (by decide) ?_
      refine lv_icmp_ge (tgt := 29) hx hb dX1_broken_7 (by decide) (fun c7 => ?_) (fun c7 => ?_)
      · obtain rfl : x1_4 = mo_brkL f g 16 0 0 := (show x1_4 = T4 from hI4).trans hT4
        refine lv_iload_n hx hb dX1_broken_29 rfl (lv_at hl 1 rfl) ?_
        exact hm_iret hx hb hr hlocks (by rw [mo_brk]) dX1_broken_30
      · exact absurd (hm_ge0 (N := 16) rfl e4) c7
    | succ n4 ih4 =>
      intro x1_4 x2_4 hn4 e4 hI4 ls hl
      refine lv_iload_n hx hb dX1_broken_4 rfl (lv_at hl 0 rfl) ?_
      refine lv_bipush (v := 16) hx hb dX1_broken_5 (by decide) ?_
      refine lv_icmp_ge (tgt := 29) hx hb dX1_broken_7 (by decide) (fun c7 => ?_) (fun c7 => ?_)
      · exact absurd c7 (hm_geS (N := 16) rfl (by decide) hn4 e4)
      · refine lv_aload_n hx hb dX1_broken_10 rfl (lv_at hl 2 rfl) ?_
        refine lv_iload_n hx hb dX1_broken_11 rfl (lv_at hl 0 rfl) ?_
        refine ca_X1_read S ⟨Nat.le_of_ble_eq_true rfl, Nat.le_of_ble_eq_true rfl⟩ hK hP hl.1 (Nat.le_of_ble_eq_true rfl) dX1_broken_12 ⟨Nat.zero_le _, Nat.zero_le _⟩ ?_
        refine lv_bipush (v := -2) hx hb dX1_broken_15 (by decide) ?_
        refine lv_icmp_ne (tgt := 23) hx hb dX1_broken_17 (by decide) (fun c17 => ?_) (fun c17 => ?_)
        · refine lv_iinc (v := (x2_4 + 1)) (lv' := [(2, .int (x2_4 + 1)), (1, .int x1_4), (0, .ref h0)]) hx hb dX1_broken_23 hl (k := 0) rfl rfl (by decide) rfl (fun ls hl => ?_)
          refine lv_goto (tgt := 4) hx hb dX1_broken_26 (by decide) ?_
          exact ih4 x1_4 (x2_4 + 1) (Nat.le_of_succ_le hn4) (hm_nx hn4 e4) (by rw [mo_brkL, if_neg c17] at hI4; exact hI4) ls (lv_sub hl [0, 1, 2] rfl)
        · refine lv_iinc (v := (x1_4 + 1)) (lv' := [(1, .int (x1_4 + 1)), (2, .int x2_4), (0, .ref h0)]) hx hb dX1_broken_20 hl (k := 1) rfl rfl (by decide) rfl (fun ls hl => ?_)
          refine lv_iinc (v := (x2_4 + 1)) (lv' := [(2, .int (x2_4 + 1)), (1, .int (x1_4 + 1)), (0, .ref h0)]) hx hb dX1_broken_23 hl (k := 1) rfl rfl (by decide) rfl (fun ls hl => ?_)
          refine lv_goto (tgt := 4) hx hb dX1_broken_26 (by decide) ?_
          exact ih4 (x1_4 + 1) (x2_4 + 1) (Nat.le_of_succ_le hn4) (hm_nx hn4 e4) (by rw [mo_brkL, if_pos c17] at hI4; exact hI4) ls (lv_sub hl [0, 1, 2] rfl)
  exact lp4 16 0 0 (by omega) (by decide) hT4.symm ls hl
set_option maxHeartbeats 4000000 in
set_option maxRecDepth 100000 in
theorem mt_X1_marred (l : Launch) (D : va_G) (h0 hw hc : Nat) (dW dK : ClassId) (f g : Nat → Int32) (h : Int32) : Met l yX1_marred (ws_ yX1_marred cX1_marred 4 (some .int)) ({ frames := 3, cells := 0, slots := 0, locals := 68 }) (va_Pc [.ref h0] (hm_ro D [(h0, .inr (1, [.ref hw, .ref hc, .int (h)])), (hw, .inl (dW, 16, .inl (f))), (hc, .inl (dK, 256, .inl (g)))] [(dW, .int), (dK, .int)])) (QcRead (mo_mar f g)) 0 0 (fun _ => False) := by
  refine Met.ofW (cc := cX1_marred) (maxL := 4) (ret := (some .int)) (by decide) rfl ?_
  intro p e s m args below meth c s₁ B hml hv
  obtain ⟨rfl, hP, hK⟩ := hv
  have hrv := va_recv hK hP (ci := 1) (q0 := 0) rfl rfl
  have hx := B.exec
  have hb := B.bytes
  have hr := B.returns
  have hts := atoms_spec (ws := (ws_ yX1_marred cX1_marred 4 (some .int))) B.pre
  have hts : ∀ w ∈ lw_all, w.before _ s = true := fun w h => hts w (List.mem_cons_of_mem _ h)
  have hown : s.vm.findClass RX1 = some m.cls := findClass_of_methodNamed B.named
  have hlocks := B.notSynchronized
  have S : CallFix p m c cX1_marred 4 s _ lw_all RX1 := ⟨hx, hb, hml, hown, hts⟩
  have hl := lv_entry ([.ref h0]) (n := 4) (Nat.le_of_ble_eq_true rfl)
  rw [lg_entry_eq]
  generalize (lg_sl ([.ref h0]) ++ List.replicate (4 - (lg_sl ([.ref h0])).length) Slot.unset).toArray = ls at hl ⊢
  have hl : lv_has ls 4 [(0, .ref h0)] := hl
  refine lv_iconst (v := 0) hx hb dX1_marred_0 (by decide) ?_
  refine lv_istore_n (lv' := [(1, .int 0), (0, .ref h0)]) hx hb dX1_marred_1 rfl hl (by decide) rfl (fun ls hl => ?_)
  refine lv_iconst (v := 0) hx hb dX1_marred_2 (by decide) ?_
  refine lv_istore_n (lv' := [(2, .int 0), (1, .int 0), (0, .ref h0)]) hx hb dX1_marred_3 rfl hl (by decide) rfl (fun ls hl => ?_)
  obtain ⟨T4, hT4⟩ : ∃ T, T = mo_marL f g 16 0 0 := ⟨_, rfl⟩
  have lp4 : ∀ (n4 : Nat) (x1_4 x2_4 : Int32), n4 ≤ 16 → x2_4 = nI (16 - n4) → mo_marL f g n4 x1_4 x2_4 = T4 → ∀ ls : Array Slot, lv_has ls 4 [(2, .int x2_4), (1, .int x1_4), (0, .ref h0)] → W p l e (headSpec (ws_ yX1_marred cX1_marred 4 (some .int)) ({ frames := 3, cells := 0, slots := 0, locals := 68 })).room s m ([.ref h0] : List Value).toArray below meth c s.heap [] 0 0 (MQ below (QcRead (mo_mar f g)) ([.ref h0] : List Value).toArray s 0 0 (fun _ => False)) (F0 m 4 ls []) := by
    intro n4
    induction n4 with
    | zero =>
      intro x1_4 x2_4 hn4 e4 hI4 ls hl
      refine lv_iload_n hx hb dX1_marred_4 rfl (lv_at hl 0 rfl) ?_
      refine lv_bipush (v := 16) hx hb dX1_marred_5 (by decide) ?_
      refine lv_icmp_ge (tgt := 44) hx hb dX1_marred_7 (by decide) (fun c7 => ?_) (fun c7 => ?_)
      · obtain rfl : x1_4 = mo_marL f g 16 0 0 := (show x1_4 = T4 from hI4).trans hT4
        refine lv_iload_n hx hb dX1_marred_44 rfl (lv_at hl 1 rfl) ?_
        exact hm_iret hx hb hr hlocks (by rw [mo_mar]) dX1_marred_45
      · exact absurd (hm_ge0 (N := 16) rfl e4) c7
    | succ n4 ih4 =>
      intro x1_4 x2_4 hn4 e4 hI4 ls hl
      refine lv_iload_n hx hb dX1_marred_4 rfl (lv_at hl 0 rfl) ?_
      refine lv_bipush (v := 16) hx hb dX1_marred_5 (by decide) ?_
      refine lv_icmp_ge (tgt := 44) hx hb dX1_marred_7 (by decide) (fun c7 => ?_) (fun c7 => ?_)
      · exact absurd c7 (hm_geS (N := 16) rfl (by decide) hn4 e4)
      · refine lv_aload_n hx hb dX1_marred_10 rfl (lv_at hl 2 rfl) ?_
        refine lv_iload_n hx hb dX1_marred_11 rfl (lv_at hl 0 rfl) ?_
        refine ca_X1_read S ⟨Nat.le_of_ble_eq_true rfl, Nat.le_of_ble_eq_true rfl⟩ hK hP hl.1 (Nat.le_of_ble_eq_true rfl) dX1_marred_12 ⟨Nat.zero_le _, Nat.zero_le _⟩ ?_
        refine lv_istore_n (lv' := [(3, .int (mo_read f g x2_4)), (2, .int x2_4), (1, .int x1_4), (0, .ref h0)]) hx hb dX1_marred_15 rfl hl (by decide) rfl (fun ls hl => ?_)
        refine lv_iload_n hx hb dX1_marred_16 rfl (lv_at hl 0 rfl) ?_
        refine lv_if_lt (tgt := 38) hx hb dX1_marred_17 (by decide) (fun c17 => ?_) (fun c17 => ?_)
        · refine lv_iinc (v := (x2_4 + 1)) (lv' := [(2, .int (x2_4 + 1)), (3, .int (mo_read f g x2_4)), (1, .int x1_4), (0, .ref h0)]) hx hb dX1_marred_38 hl (k := 1) rfl rfl (by decide) rfl (fun ls hl => ?_)
          refine lv_goto (tgt := 4) hx hb dX1_marred_41 (by decide) ?_
          exact ih4 x1_4 (x2_4 + 1) (Nat.le_of_succ_le hn4) (hm_nx hn4 e4) (by rw [mo_marL, if_pos c17] at hI4; exact hI4) ls (lv_sub hl [0, 2, 3] rfl)
        · refine lv_aload_n hx hb dX1_marred_20 rfl (lv_at hl 3 rfl) ?_
          refine va_get (D := D) (ci := 1) (v := .ref hw) (C := RX1) (T := TX1) (N := 3) hx hb hts in_X1 hown hK hP 0 rfl rfl 0 (by decide) (hts _ q152) (fun _ h9 => h9) rfl dX1_marred_21 ?_
          refine lv_iload_n hx hb dX1_marred_24 rfl (lv_at hl 1 rfl) ?_
          refine va_iald hx hb hK hP 1 0 rfl rfl (hm_in (N := 16) (by decide) hn4 e4) dX1_marred_25 ?_
          refine lv_aload_n hx hb dX1_marred_26 rfl (lv_at hl 3 rfl) ?_
          refine va_get (D := D) (ci := 1) (v := .ref hc) (C := RX1) (T := TX1) (N := 3) hx hb hts in_X1 hown hK hP 0 rfl rfl 1 (by decide) (hts _ q153) (fun _ h9 => h9) rfl dX1_marred_27 ?_
          refine lv_iload_n hx hb dX1_marred_30 rfl (lv_at hl 0 rfl) ?_
          refine va_iald hx hb hK hP 2 1 rfl rfl (mo_read_in c17).1 dX1_marred_31 ?_
          refine lv_icmp_eq (tgt := 38) hx hb dX1_marred_32 (by decide) (fun c32 => ?_) (fun c32 => ?_)
          · refine lv_iinc (v := (x2_4 + 1)) (lv' := [(2, .int (x2_4 + 1)), (3, .int (mo_read f g x2_4)), (1, .int x1_4), (0, .ref h0)]) hx hb dX1_marred_38 hl (k := 1) rfl rfl (by decide) rfl (fun ls hl => ?_)
            refine lv_goto (tgt := 4) hx hb dX1_marred_41 (by decide) ?_
            exact ih4 x1_4 (x2_4 + 1) (Nat.le_of_succ_le hn4) (hm_nx hn4 e4) (by rw [mo_marL, if_neg c17, if_pos c32] at hI4; exact hI4) ls (lv_sub hl [0, 2, 3] rfl)
          · refine lv_iinc (v := (x1_4 + 1)) (lv' := [(1, .int (x1_4 + 1)), (3, .int (mo_read f g x2_4)), (2, .int x2_4), (0, .ref h0)]) hx hb dX1_marred_35 hl (k := 2) rfl rfl (by decide) rfl (fun ls hl => ?_)
            refine lv_iinc (v := (x2_4 + 1)) (lv' := [(2, .int (x2_4 + 1)), (1, .int (x1_4 + 1)), (3, .int (mo_read f g x2_4)), (0, .ref h0)]) hx hb dX1_marred_38 hl (k := 2) rfl rfl (by decide) rfl (fun ls hl => ?_)
            refine lv_goto (tgt := 4) hx hb dX1_marred_41 (by decide) ?_
            exact ih4 (x1_4 + 1) (x2_4 + 1) (Nat.le_of_succ_le hn4) (hm_nx hn4 e4) (by rw [mo_marL, if_neg c17, if_neg c32] at hI4; exact hI4) ls (lv_sub hl [0, 1, 3] rfl)
  exact lp4 16 0 0 (by omega) (by decide) hT4.symm ls hl
set_option maxHeartbeats 4000000 in
set_option maxRecDepth 100000 in
theorem mt_X1_distance (l : Launch) (D : va_G) (h0 hw hc : Nat) (dW dK : ClassId) (f g : Nat → Int32) (h : Int32) (x1 : Int32) (x2 : Int32) : Met l yX1_distance (ws_ yX1_distance cX1_distance 3 (some .int)) ({ frames := 2, cells := 0, slots := 0, locals := 46 }) (va_Pc [.ref h0, .int x1, .int x2] (hm_ro D [(h0, .inr (1, [.ref hw, .ref hc, .int (h)])), (hw, .inl (dW, 16, .inl (f))), (hc, .inl (dK, 256, .inl (g)))] [(dW, .int), (dK, .int)])) (QcRead (mo_dist f g x1 x2)) 0 0 (fun _ => False) := by
  refine Met.ofW (cc := cX1_distance) (maxL := 3) (ret := (some .int)) (by decide) rfl ?_
  intro p e s m args below meth c s₁ B hml hv
  obtain ⟨rfl, hP, hK⟩ := hv
  have hrv := va_recv hK hP (ci := 1) (q0 := 0) rfl rfl
  have hx := B.exec
  have hb := B.bytes
  have hr := B.returns
  have hts := atoms_spec (ws := (ws_ yX1_distance cX1_distance 3 (some .int))) B.pre
  have hts : ∀ w ∈ lw_all, w.before _ s = true := fun w h => hts w (List.mem_cons_of_mem _ h)
  have hown : s.vm.findClass RX1 = some m.cls := findClass_of_methodNamed B.named
  have hlocks := B.notSynchronized
  have S : CallFix p m c cX1_distance 3 s _ lw_all RX1 := ⟨hx, hb, hml, hown, hts⟩
  have hl := lv_entry ([.ref h0, .int x1, .int x2]) (n := 3) (Nat.le_of_ble_eq_true rfl)
  rw [lg_entry_eq]
  generalize (lg_sl ([.ref h0, .int x1, .int x2]) ++ List.replicate (3 - (lg_sl ([.ref h0, .int x1, .int x2])).length) Slot.unset).toArray = ls at hl ⊢
  have hl : lv_has ls 3 [(0, .ref h0), (1, .int x1), (2, .int x2)] := hl
  refine lv_aload_n hx hb dX1_distance_0 rfl (lv_at hl 0 rfl) ?_
  refine lv_iload_n hx hb dX1_distance_1 rfl (lv_at hl 1 rfl) ?_
  refine ca_X1_isWord S ⟨Nat.le_of_ble_eq_true rfl, Nat.le_of_ble_eq_true rfl⟩ hrv hl.1 (Nat.le_of_ble_eq_true rfl) dX1_distance_2 ⟨Nat.zero_le _, Nat.zero_le _⟩ ?_
  refine lv_if_eq (tgt := 19) hx hb dX1_distance_5 (by decide) (fun c5 => ?_) (fun c5 => ?_)
  · refine lv_iconst (v := -1) hx hb dX1_distance_19 (by decide) ?_
    exact hm_iret hx hb hr hlocks (by rw [mo_dist, if_pos c5]) dX1_distance_20
  · refine lv_iload_n hx hb dX1_distance_8 rfl (lv_at hl 2 rfl) ?_
    refine lv_if_lt (tgt := 19) hx hb dX1_distance_9 (by decide) (fun c9 => ?_) (fun c9 => ?_)
    · refine lv_iconst (v := -1) hx hb dX1_distance_19 (by decide) ?_
      exact hm_iret hx hb hr hlocks (by rw [mo_dist, if_neg c5, if_pos c9]) dX1_distance_20
    · refine lv_iload_n hx hb dX1_distance_12 rfl (lv_at hl 2 rfl) ?_
      refine lv_sipush (v := 255) hx hb dX1_distance_13 (by decide) ?_
      refine lv_icmp_le (tgt := 21) hx hb dX1_distance_16 (by decide) (fun c16 => ?_) (fun c16 => ?_)
      · refine lv_aload_n hx hb dX1_distance_21 rfl (lv_at hl 0 rfl) ?_
        refine lv_aload_n hx hb dX1_distance_22 rfl (lv_at hl 0 rfl) ?_
        refine va_get (D := D) (ci := 1) (v := .ref hw) (C := RX1) (T := TX1) (N := 3) hx hb hts in_X1 hown hK hP 0 rfl rfl 0 (by decide) (hts _ q152) (fun _ h9 => h9) rfl dX1_distance_23 ?_
        refine lv_iload_n hx hb dX1_distance_26 rfl (lv_at hl 1 rfl) ?_
        refine va_iald hx hb hK hP 1 0 rfl rfl (hm_isWord_in c5) dX1_distance_27 ?_
        refine lv_aload_n hx hb dX1_distance_28 rfl (lv_at hl 0 rfl) ?_
        refine va_get (D := D) (ci := 1) (v := .ref hc) (C := RX1) (T := TX1) (N := 3) hx hb hts in_X1 hown hK hP 0 rfl rfl 1 (by decide) (hts _ q153) (fun _ h9 => h9) rfl dX1_distance_29 ?_
        refine lv_iload_n hx hb dX1_distance_32 rfl (lv_at hl 2 rfl) ?_
        refine va_iald hx hb hK hP 2 1 rfl rfl (hm_in2 (M := 255) (n := 255) (by decide) c9 c16 (by decide)) dX1_distance_33 ?_
        refine ca_X1_apart S ⟨Nat.le_of_ble_eq_true rfl, Nat.le_of_ble_eq_true rfl⟩ hrv hl.1 (Nat.le_of_ble_eq_true rfl) dX1_distance_34 ⟨Nat.zero_le _, Nat.zero_le _⟩ ?_
        exact hm_iret hx hb hr hlocks (by rw [mo_dist, if_neg c5, if_neg c9, if_pos c16]) dX1_distance_37
      · refine lv_iconst (v := -1) hx hb dX1_distance_19 (by decide) ?_
        exact hm_iret hx hb hr hlocks (by rw [mo_dist, if_neg c5, if_neg c9, if_neg c16]) dX1_distance_20
set_option maxHeartbeats 4000000 in
set_option maxRecDepth 100000 in
theorem mt_X1_nearest (l : Launch) (D : va_G) (h0 hw hc : Nat) (dW dK : ClassId) (f g : Nat → Int32) (h : Int32) (x1 : Int32) : Met l yX1_nearest (ws_ yX1_nearest cX1_nearest 6 (some .int)) ({ frames := 2, cells := 0, slots := 0, locals := 46 }) (va_Pc [.ref h0, .int x1] (hm_ro D [(h0, .inr (1, [.ref hw, .ref hc, .int (h)])), (hw, .inl (dW, 16, .inl (f))), (hc, .inl (dK, 256, .inl (g)))] [(dW, .int), (dK, .int)])) (QcRead (mo_near f g x1)) 0 0 (fun _ => False) := by
  refine Met.ofW (cc := cX1_nearest) (maxL := 6) (ret := (some .int)) (by decide) rfl ?_
  intro p e s m args below meth c s₁ B hml hv
  obtain ⟨rfl, hP, hK⟩ := hv
  have hrv := va_recv hK hP (ci := 1) (q0 := 0) rfl rfl
  have hx := B.exec
  have hb := B.bytes
  have hr := B.returns
  have hts := atoms_spec (ws := (ws_ yX1_nearest cX1_nearest 6 (some .int))) B.pre
  have hts : ∀ w ∈ lw_all, w.before _ s = true := fun w h => hts w (List.mem_cons_of_mem _ h)
  have hown : s.vm.findClass RX1 = some m.cls := findClass_of_methodNamed B.named
  have hlocks := B.notSynchronized
  have S : CallFix p m c cX1_nearest 6 s _ lw_all RX1 := ⟨hx, hb, hml, hown, hts⟩
  have hl := lv_entry ([.ref h0, .int x1]) (n := 6) (Nat.le_of_ble_eq_true rfl)
  rw [lg_entry_eq]
  generalize (lg_sl ([.ref h0, .int x1]) ++ List.replicate (6 - (lg_sl ([.ref h0, .int x1])).length) Slot.unset).toArray = ls at hl ⊢
  have hl : lv_has ls 6 [(0, .ref h0), (1, .int x1)] := hl
  refine lv_aload_n hx hb dX1_nearest_0 rfl (lv_at hl 0 rfl) ?_
  refine lv_iload_n hx hb dX1_nearest_1 rfl (lv_at hl 1 rfl) ?_
  refine ca_X1_isWord S ⟨Nat.le_of_ble_eq_true rfl, Nat.le_of_ble_eq_true rfl⟩ hrv hl.1 (Nat.le_of_ble_eq_true rfl) dX1_nearest_2 ⟨Nat.zero_le _, Nat.zero_le _⟩ ?_
  refine lv_if_ne (tgt := 10) hx hb dX1_nearest_5 (by decide) (fun c5 => ?_) (fun c5 => ?_)
  · refine lv_bipush (v := 13) hx hb dX1_nearest_10 (by decide) ?_
    refine lv_istore_n (lv' := [(2, .int 13), (0, .ref h0), (1, .int x1)]) hx hb dX1_nearest_12 rfl hl (by decide) rfl (fun ls hl => ?_)
    refine lv_iconst (v := 0) hx hb dX1_nearest_13 (by decide) ?_
    refine lv_istore_n (lv' := [(3, .int 0), (2, .int 13), (0, .ref h0), (1, .int x1)]) hx hb dX1_nearest_14 rfl hl (by decide) rfl (fun ls hl => ?_)
    refine lv_iconst (v := 0) hx hb dX1_nearest_15 (by decide) ?_
    refine lv_istore (lv' := [(4, .int 0), (3, .int 0), (2, .int 13), (0, .ref h0), (1, .int x1)]) hx hb dX1_nearest_16 hl (by decide) rfl (fun ls hl => ?_)
    obtain ⟨T18, hT18⟩ : ∃ T, T = mo_nearL (f x1.toNatClampNeg) g 256 13 0 0 := ⟨_, rfl⟩
    have lp18 : ∀ (n18 : Nat) (x2_18 x3_18 x4_18 : Int32), n18 ≤ 256 → x4_18 = nI (256 - n18) → mo_nearL (f x1.toNatClampNeg) g n18 x2_18 x3_18 x4_18 = T18 → ∀ ls : Array Slot, lv_has ls 6 [(4, .int x4_18), (3, .int x3_18), (2, .int x2_18), (0, .ref h0), (1, .int x1)] → W p l e (headSpec (ws_ yX1_nearest cX1_nearest 6 (some .int)) ({ frames := 2, cells := 0, slots := 0, locals := 46 })).room s m ([.ref h0, .int x1] : List Value).toArray below meth c s.heap [] 0 0 (MQ below (QcRead (mo_near f g x1)) ([.ref h0, .int x1] : List Value).toArray s 0 0 (fun _ => False)) (F0 m 18 ls []) := by
      intro n18
      induction n18 with
      | zero =>
        intro x2_18 x3_18 x4_18 hn18 e18 hI18 ls hl
        refine lv_iload hx hb dX1_nearest_18 (lv_at hl 0 rfl) ?_
        refine lv_sipush (v := 256) hx hb dX1_nearest_20 (by decide) ?_
        refine lv_icmp_ge (tgt := 71) hx hb dX1_nearest_23 (by decide) (fun c23 => ?_) (fun c23 => ?_)
        · refine lv_sipush (v := 1000) hx hb dX1_nearest_71 (by decide) ?_
          refine lv_iload_n hx hb dX1_nearest_74 rfl (lv_at hl 2 rfl) ?_
          refine lv_imul hx hb dX1_nearest_75 ?_
          refine lv_iload_n hx hb dX1_nearest_76 rfl (lv_at hl 1 rfl) ?_
          refine lv_iadd hx hb dX1_nearest_77 ?_
          exact hm_iret hx hb hr hlocks (by have h9 : ((1000 * x2_18) + x3_18) = T18 := hI18; rw [h9, hT18, mo_near, if_neg c5]) dX1_nearest_78
        · exact absurd (hm_ge0 (N := 256) rfl e18) c23
      | succ n18 ih18 =>
        intro x2_18 x3_18 x4_18 hn18 e18 hI18 ls hl
        refine lv_iload hx hb dX1_nearest_18 (lv_at hl 0 rfl) ?_
        refine lv_sipush (v := 256) hx hb dX1_nearest_20 (by decide) ?_
        refine lv_icmp_ge (tgt := 71) hx hb dX1_nearest_23 (by decide) (fun c23 => ?_) (fun c23 => ?_)
        · exact absurd c23 (hm_geS (N := 256) rfl (by decide) hn18 e18)
        · refine lv_aload_n hx hb dX1_nearest_26 rfl (lv_at hl 3 rfl) ?_
          refine lv_aload_n hx hb dX1_nearest_27 rfl (lv_at hl 3 rfl) ?_
          refine va_get (D := D) (ci := 1) (v := .ref hw) (C := RX1) (T := TX1) (N := 3) hx hb hts in_X1 hown hK hP 0 rfl rfl 0 (by decide) (hts _ q152) (fun _ h9 => h9) rfl dX1_nearest_28 ?_
          refine lv_iload_n hx hb dX1_nearest_31 rfl (lv_at hl 4 rfl) ?_
          refine va_iald hx hb hK hP 1 0 rfl rfl (hm_isWord_in c5) dX1_nearest_32 ?_
          refine lv_aload_n hx hb dX1_nearest_33 rfl (lv_at hl 3 rfl) ?_
          refine va_get (D := D) (ci := 1) (v := .ref hc) (C := RX1) (T := TX1) (N := 3) hx hb hts in_X1 hown hK hP 0 rfl rfl 1 (by decide) (hts _ q153) (fun _ h9 => h9) rfl dX1_nearest_34 ?_
          refine lv_iload hx hb dX1_nearest_37 (lv_at hl 0 rfl) ?_
          refine va_iald hx hb hK hP 2 1 rfl rfl (hm_in (N := 256) (by decide) hn18 e18) dX1_nearest_39 ?_
          refine ca_X1_apart S ⟨Nat.le_of_ble_eq_true rfl, Nat.le_of_ble_eq_true rfl⟩ hrv hl.1 (Nat.le_of_ble_eq_true rfl) dX1_nearest_40 ⟨Nat.zero_le _, Nat.zero_le _⟩ ?_
          refine lv_istore (lv' := [(5, .int (mo_ap (f x1.toNatClampNeg) (g x4_18.toNatClampNeg))), (4, .int x4_18), (3, .int x3_18), (2, .int x2_18), (0, .ref h0), (1, .int x1)]) hx hb dX1_nearest_43 hl (by decide) rfl (fun ls hl => ?_)
          refine lv_iload hx hb dX1_nearest_45 (lv_at hl 0 rfl) ?_
          refine lv_iload_n hx hb dX1_nearest_47 rfl (lv_at hl 3 rfl) ?_
          refine lv_icmp_ge (tgt := 56) hx hb dX1_nearest_48 (by decide) (fun c48 => ?_) (fun c48 => ?_)
          · refine lv_iload hx hb dX1_nearest_56 (lv_at hl 0 rfl) ?_
            refine lv_iload_n hx hb dX1_nearest_58 rfl (lv_at hl 3 rfl) ?_
            refine lv_icmp_ne (tgt := 65) hx hb dX1_nearest_59 (by decide) (fun c59 => ?_) (fun c59 => ?_)
            · refine lv_iinc (v := (x4_18 + 1)) (lv' := [(4, .int (x4_18 + 1)), (5, .int (mo_ap (f x1.toNatClampNeg) (g x4_18.toNatClampNeg))), (3, .int x3_18), (2, .int x2_18), (0, .ref h0), (1, .int x1)]) hx hb dX1_nearest_65 hl (k := 1) rfl rfl (by decide) rfl (fun ls hl => ?_)
              refine lv_goto (tgt := 18) hx hb dX1_nearest_68 (by decide) ?_
              exact ih18 x2_18 x3_18 (x4_18 + 1) (Nat.le_of_succ_le hn18) (hm_nx hn18 e18) (by rw [mo_nearL, if_pos c48, if_neg c59] at hI18; exact hI18) ls (lv_sub hl [0, 2, 3, 4, 5] rfl)
            · refine lv_iinc (v := (x3_18 + 1)) (lv' := [(3, .int (x3_18 + 1)), (5, .int (mo_ap (f x1.toNatClampNeg) (g x4_18.toNatClampNeg))), (4, .int x4_18), (2, .int x2_18), (0, .ref h0), (1, .int x1)]) hx hb dX1_nearest_62 hl (k := 2) rfl rfl (by decide) rfl (fun ls hl => ?_)
              refine lv_iinc (v := (x4_18 + 1)) (lv' := [(4, .int (x4_18 + 1)), (3, .int (x3_18 + 1)), (5, .int (mo_ap (f x1.toNatClampNeg) (g x4_18.toNatClampNeg))), (2, .int x2_18), (0, .ref h0), (1, .int x1)]) hx hb dX1_nearest_65 hl (k := 2) rfl rfl (by decide) rfl (fun ls hl => ?_)
              refine lv_goto (tgt := 18) hx hb dX1_nearest_68 (by decide) ?_
              exact ih18 x2_18 (x3_18 + 1) (x4_18 + 1) (Nat.le_of_succ_le hn18) (hm_nx hn18 e18) (by rw [mo_nearL, if_pos c48, if_pos c59] at hI18; exact hI18) ls (lv_sub hl [0, 1, 3, 4, 5] rfl)
          · refine lv_iload hx hb dX1_nearest_51 (lv_at hl 0 rfl) ?_
            refine lv_istore_n (lv' := [(2, .int (mo_ap (f x1.toNatClampNeg) (g x4_18.toNatClampNeg))), (5, .int (mo_ap (f x1.toNatClampNeg) (g x4_18.toNatClampNeg))), (4, .int x4_18), (3, .int x3_18), (0, .ref h0), (1, .int x1)]) hx hb dX1_nearest_53 rfl hl (by decide) rfl (fun ls hl => ?_)
            refine lv_iconst (v := 0) hx hb dX1_nearest_54 (by decide) ?_
            refine lv_istore_n (lv' := [(3, .int 0), (2, .int (mo_ap (f x1.toNatClampNeg) (g x4_18.toNatClampNeg))), (5, .int (mo_ap (f x1.toNatClampNeg) (g x4_18.toNatClampNeg))), (4, .int x4_18), (0, .ref h0), (1, .int x1)]) hx hb dX1_nearest_55 rfl hl (by decide) rfl (fun ls hl => ?_)
            refine lv_iload hx hb dX1_nearest_56 (lv_at hl 2 rfl) ?_
            refine lv_iload_n hx hb dX1_nearest_58 rfl (lv_at hl 1 rfl) ?_
            refine lv_icmp_ne (tgt := 65) hx hb dX1_nearest_59 (by decide) (fun c59 => ?_) (fun c59 => ?_)
            · refine lv_iinc (v := (x4_18 + 1)) (lv' := [(4, .int (x4_18 + 1)), (3, .int 0), (2, .int (mo_ap (f x1.toNatClampNeg) (g x4_18.toNatClampNeg))), (5, .int (mo_ap (f x1.toNatClampNeg) (g x4_18.toNatClampNeg))), (0, .ref h0), (1, .int x1)]) hx hb dX1_nearest_65 hl (k := 3) rfl rfl (by decide) rfl (fun ls hl => ?_)
              refine lv_goto (tgt := 18) hx hb dX1_nearest_68 (by decide) ?_
              exact ih18 (mo_ap (f x1.toNatClampNeg) (g x4_18.toNatClampNeg)) 0 (x4_18 + 1) (Nat.le_of_succ_le hn18) (hm_nx hn18 e18) (by rw [mo_nearL, if_neg c48, if_neg c59] at hI18; exact hI18) ls (lv_sub hl [0, 1, 2, 4, 5] rfl)
            · refine lv_iinc (v := (0 + 1)) (lv' := [(3, .int (0 + 1)), (2, .int (mo_ap (f x1.toNatClampNeg) (g x4_18.toNatClampNeg))), (5, .int (mo_ap (f x1.toNatClampNeg) (g x4_18.toNatClampNeg))), (4, .int x4_18), (0, .ref h0), (1, .int x1)]) hx hb dX1_nearest_62 hl (k := 0) rfl rfl (by decide) rfl (fun ls hl => ?_)
              refine lv_iinc (v := (x4_18 + 1)) (lv' := [(4, .int (x4_18 + 1)), (3, .int (0 + 1)), (2, .int (mo_ap (f x1.toNatClampNeg) (g x4_18.toNatClampNeg))), (5, .int (mo_ap (f x1.toNatClampNeg) (g x4_18.toNatClampNeg))), (0, .ref h0), (1, .int x1)]) hx hb dX1_nearest_65 hl (k := 3) rfl rfl (by decide) rfl (fun ls hl => ?_)
              refine lv_goto (tgt := 18) hx hb dX1_nearest_68 (by decide) ?_
              exact ih18 (mo_ap (f x1.toNatClampNeg) (g x4_18.toNatClampNeg)) (0 + 1) (x4_18 + 1) (Nat.le_of_succ_le hn18) (hm_nx hn18 e18) (by rw [mo_nearL, if_neg c48, if_pos c59] at hI18; exact hI18) ls (lv_sub hl [0, 1, 2, 4, 5] rfl)
    exact lp18 256 13 0 0 (by omega) (by decide) hT18.symm ls hl
  · refine lv_iconst (v := -1) hx hb dX1_nearest_8 (by decide) ?_
    exact hm_iret hx hb hr hlocks (by rw [mo_near, if_pos c5]) dX1_nearest_9
end
section
set_option maxHeartbeats 4000000 in
set_option maxRecDepth 100000 in
theorem mt_X1_write (l : Launch) (D : va_G) (h0 hw hc : Nat) (dW dK : ClassId) (f g : Nat → Int32) (h : Int32) (sz : Nat) (x1 : Int32) (x2 : Int32) : Met l yX1_write (ws_ yX1_write cX1_write 3 (some .int)) ({ frames := 1, cells := 0, slots := 0, locals := 21 }) (va_Pc [.ref h0, .int x1, .int x2] (fun U => U.heap.size = sz ∧ va_P D vwCl [(h0, .inr (1, [.ref hw, .ref hc, .int (h)])), (hw, .inl (dW, 16, .inl (f))), (hc, .inl (dK, 256, .inl (g)))] U.heap ∧ va_K D vwCl [(dW, .int), (dK, .int)] U ∧ va_D (fun _ => True) [(h0, .inr (1, [.ref hw, .ref hc, .int (h)])), (hw, .inl (dW, 16, .inl (f))), (hc, .inl (dK, 256, .inl (g)))])) (va_Qi (fun (r : Int32) (u : Nat → Int32) => (r, u) = mo_write f g x1 x2) (fun u t => va_P D vwCl [(h0, .inr (1, [.ref hw, .ref hc, .int (h)])), (hw, .inl (dW, 16, .inl (u))), (hc, .inl (dK, 256, .inl (g)))] t.heap ∧ va_D (va_A [(h0, .inr (1, [.ref hw, .ref hc, .int (h)])), (hw, .inl (dW, 16, .inl (f))), (hc, .inl (dK, 256, .inl (g)))] sz) [(h0, .inr (1, [.ref hw, .ref hc, .int (h)])), (hw, .inl (dW, 16, .inl (u))), (hc, .inl (dK, 256, .inl (g)))]) (va_A [(h0, .inr (1, [.ref hw, .ref hc, .int (h)])), (hw, .inl (dW, 16, .inl (f))), (hc, .inl (dK, 256, .inl (g)))] sz)) 0 0 (va_A [(h0, .inr (1, [.ref hw, .ref hc, .int (h)])), (hw, .inl (dW, 16, .inl (f))), (hc, .inl (dK, 256, .inl (g)))] sz) := by
  refine Met.ofW (cc := cX1_write) (maxL := 3) (ret := (some .int)) (by decide) rfl ?_
  intro p e s m args below meth c s₁ B hml hv
  obtain ⟨rfl, hsz, hP, hK, hD0⟩ := hv
  have hx := B.exec
  have hb := B.bytes
  have hr := B.returns
  have hts := atoms_spec (ws := (ws_ yX1_write cX1_write 3 (some .int))) B.pre
  have hts : ∀ w ∈ lw_all, w.before _ s = true := fun w h => hts w (List.mem_cons_of_mem _ h)
  have hown : s.vm.findClass RX1 = some m.cls := findClass_of_methodNamed B.named
  have hlocks := B.notSynchronized
  have S : CallFix p m c cX1_write 3 s _ lw_all RX1 := ⟨hx, hb, hml, hown, hts⟩
  subst hsz
  have hD := hD0.self (sz := s.heap.size)
  generalize hAe : va_A [(h0, .inr (1, [.ref hw, .ref hc, .int (h)])), (hw, .inl (dW, 16, .inl (f))), (hc, .inl (dK, 256, .inl (g)))] s.heap.size = A at hD ⊢
  have hA : ∀ q : Nat, s.heap.size ≤ q → A q := fun q h => by rw [← hAe]; exact Or.inr h
  have hS : va_S A s.heap s.heap [] := va_S.rf
  have hP : va_P D vwCl [(h0, .inr (1, [.ref hw, .ref hc, .int (h)])), (hw, .inl (dW, 16, .inl (f))), (hc, .inl (dK, 256, .inl (g)))] s.heap := hP
  have hl := lv_entry ([.ref h0, .int x1, .int x2]) (n := 3) (Nat.le_of_ble_eq_true rfl)
  rw [lg_entry_eq]
  generalize (lg_sl ([.ref h0, .int x1, .int x2]) ++ List.replicate (3 - (lg_sl ([.ref h0, .int x1, .int x2])).length) Slot.unset).toArray = ls at hl ⊢
  have hl : lv_has ls 3 [(0, .ref h0), (1, .int x1), (2, .int x2)] := hl
  refine lv_aload_n hx hb dX1_write_0 rfl (lv_at hl 0 rfl) ?_
  refine lv_iload_n hx hb dX1_write_1 rfl (lv_at hl 1 rfl) ?_
  refine ca_X1_isWord S ⟨Nat.le_of_ble_eq_true rfl, Nat.le_of_ble_eq_true rfl⟩ (va_recv hK hP (ci := 1) (q0 := 0) rfl rfl) hl.1 (Nat.le_of_ble_eq_true rfl) dX1_write_2 ⟨Nat.zero_le _, Nat.zero_le _⟩ ?_
  refine lv_if_eq (tgt := 19) hx hb dX1_write_5 (by decide) (fun c5 => ?_) (fun c5 => ?_)
  · refine lv_iconst (v := -1) hx hb dX1_write_19 (by decide) ?_
    exact W.iret (v := (-1)) hx hb hr (fun t ht hW => ⟨⟨(-1), f, rfl, by show ((-1), f) = mo_write f g x1 x2; rw [mo_write, if_pos c5], by rw [ht]; exact hP, hD⟩, hS.F ht⟩) hS.2.2 dX1_write_20 hlocks
  · refine lv_iload_n hx hb dX1_write_8 rfl (lv_at hl 2 rfl) ?_
    refine lv_if_lt (tgt := 19) hx hb dX1_write_9 (by decide) (fun c9 => ?_) (fun c9 => ?_)
    · refine lv_iconst (v := -1) hx hb dX1_write_19 (by decide) ?_
      exact W.iret (v := (-1)) hx hb hr (fun t ht hW => ⟨⟨(-1), f, rfl, by show ((-1), f) = mo_write f g x1 x2; rw [mo_write, if_neg c5, if_pos c9], by rw [ht]; exact hP, hD⟩, hS.F ht⟩) hS.2.2 dX1_write_20 hlocks
    · refine lv_iload_n hx hb dX1_write_12 rfl (lv_at hl 2 rfl) ?_
      refine lv_sipush (v := 255) hx hb dX1_write_13 (by decide) ?_
      refine lv_icmp_le (tgt := 21) hx hb dX1_write_16 (by decide) (fun c16 => ?_) (fun c16 => ?_)
      · refine lv_aload_n hx hb dX1_write_21 rfl (lv_at hl 0 rfl) ?_
        refine va_get (D := D) (ci := 1) (v := .ref hw) (C := RX1) (T := TX1) (N := 3) hx hb hts in_X1 hown hK hP 0 rfl rfl 0 (by decide) (hts _ q152) (fun _ h9 => h9) rfl dX1_write_22 ?_
        refine lv_iload_n hx hb dX1_write_25 rfl (lv_at hl 1 rfl) ?_
        refine lv_aload_n hx hb dX1_write_26 rfl (lv_at hl 0 rfl) ?_
        refine va_get (D := D) (ci := 1) (v := .ref hc) (C := RX1) (T := TX1) (N := 3) hx hb hts in_X1 hown hK hP 0 rfl rfl 1 (by decide) (hts _ q153) (fun _ h9 => h9) rfl dX1_write_27 ?_
        refine lv_iload_n hx hb dX1_write_30 rfl (lv_at hl 2 rfl) ?_
        refine va_iald hx hb hK hP 2 1 rfl rfl (hm_in2 (M := 255) (n := 255) (by decide) c9 c16 (by decide)) dX1_write_31 ?_
        refine va_iast hx hb hK hP hD hS 1 0 rfl rfl (hm_isWord_in c5) dX1_write_32 (fun H locs hP hD hS => ?_)
        have hP : va_P D vwCl [(h0, .inr (1, [.ref hw, .ref hc, .int (h)])), (hw, .inl (dW, 16, .inl (upd f x1.toNatClampNeg (g x2.toNatClampNeg)))), (hc, .inl (dK, 256, .inl (g)))] H := hP
        have hD : va_D A [(h0, .inr (1, [.ref hw, .ref hc, .int (h)])), (hw, .inl (dW, 16, .inl (upd f x1.toNatClampNeg (g x2.toNatClampNeg)))), (hc, .inl (dK, 256, .inl (g)))] := hD
        refine lv_aload_n hx hb dX1_write_33 rfl (lv_at hl 0 rfl) ?_
        refine va_get (D := D) (ci := 1) (v := .ref hw) (C := RX1) (T := TX1) (N := 3) hx hb hts in_X1 hown hK hP 0 rfl rfl 0 (by decide) (hts _ q152) (fun _ h9 => h9) rfl dX1_write_34 ?_
        refine lv_iload_n hx hb dX1_write_37 rfl (lv_at hl 1 rfl) ?_
        refine va_iald hx hb hK hP 1 0 rfl rfl (hm_isWord_in c5) dX1_write_38 ?_
        exact W.iret (v := ((upd f x1.toNatClampNeg (g x2.toNatClampNeg)) x1.toNatClampNeg)) hx hb hr (fun t ht hW => ⟨⟨((upd f x1.toNatClampNeg (g x2.toNatClampNeg)) x1.toNatClampNeg), upd f x1.toNatClampNeg (g x2.toNatClampNeg), rfl, by show (((upd f x1.toNatClampNeg (g x2.toNatClampNeg)) x1.toNatClampNeg), upd f x1.toNatClampNeg (g x2.toNatClampNeg)) = mo_write f g x1 x2; rw [mo_write, if_neg c5, if_neg c9, if_pos c16], by rw [ht]; exact hP, hD⟩, hS.F ht⟩) hS.2.2 dX1_write_39 hlocks
      · refine lv_iconst (v := -1) hx hb dX1_write_19 (by decide) ?_
        exact W.iret (v := (-1)) hx hb hr (fun t ht hW => ⟨⟨(-1), f, rfl, by show ((-1), f) = mo_write f g x1 x2; rw [mo_write, if_neg c5, if_neg c9, if_neg c16], by rw [ht]; exact hP, hD⟩, hS.F ht⟩) hS.2.2 dX1_write_20 hlocks
set_option maxHeartbeats 4000000 in
set_option maxRecDepth 100000 in
theorem mt_X1_flip (l : Launch) (D : va_G) (h0 hw hc : Nat) (dW dK : ClassId) (f g : Nat → Int32) (h : Int32) (sz : Nat) (x1 : Int32) (x2 : Int32) : Met l yX1_flip (ws_ yX1_flip cX1_flip 3 (some .int)) ({ frames := 1, cells := 0, slots := 0, locals := 21 }) (va_Pc [.ref h0, .int x1, .int x2] (fun U => U.heap.size = sz ∧ va_P D vwCl [(h0, .inr (1, [.ref hw, .ref hc, .int (h)])), (hw, .inl (dW, 16, .inl (f))), (hc, .inl (dK, 256, .inl (g)))] U.heap ∧ va_K D vwCl [(dW, .int), (dK, .int)] U ∧ va_D (fun _ => True) [(h0, .inr (1, [.ref hw, .ref hc, .int (h)])), (hw, .inl (dW, 16, .inl (f))), (hc, .inl (dK, 256, .inl (g)))])) (va_Qi (fun (r : Int32) (u : Nat → Int32) => (r, u) = mo_flip f x1 x2) (fun u t => va_P D vwCl [(h0, .inr (1, [.ref hw, .ref hc, .int (h)])), (hw, .inl (dW, 16, .inl (u))), (hc, .inl (dK, 256, .inl (g)))] t.heap ∧ va_D (va_A [(h0, .inr (1, [.ref hw, .ref hc, .int (h)])), (hw, .inl (dW, 16, .inl (f))), (hc, .inl (dK, 256, .inl (g)))] sz) [(h0, .inr (1, [.ref hw, .ref hc, .int (h)])), (hw, .inl (dW, 16, .inl (u))), (hc, .inl (dK, 256, .inl (g)))]) (va_A [(h0, .inr (1, [.ref hw, .ref hc, .int (h)])), (hw, .inl (dW, 16, .inl (f))), (hc, .inl (dK, 256, .inl (g)))] sz)) 0 0 (va_A [(h0, .inr (1, [.ref hw, .ref hc, .int (h)])), (hw, .inl (dW, 16, .inl (f))), (hc, .inl (dK, 256, .inl (g)))] sz) := by
  refine Met.ofW (cc := cX1_flip) (maxL := 3) (ret := (some .int)) (by decide) rfl ?_
  intro p e s m args below meth c s₁ B hml hv
  obtain ⟨rfl, hsz, hP, hK, hD0⟩ := hv
  have hx := B.exec
  have hb := B.bytes
  have hr := B.returns
  have hts := atoms_spec (ws := (ws_ yX1_flip cX1_flip 3 (some .int))) B.pre
  have hts : ∀ w ∈ lw_all, w.before _ s = true := fun w h => hts w (List.mem_cons_of_mem _ h)
  have hown : s.vm.findClass RX1 = some m.cls := findClass_of_methodNamed B.named
  have hlocks := B.notSynchronized
  have S : CallFix p m c cX1_flip 3 s _ lw_all RX1 := ⟨hx, hb, hml, hown, hts⟩
  subst hsz
  have hD := hD0.self (sz := s.heap.size)
  generalize hAe : va_A [(h0, .inr (1, [.ref hw, .ref hc, .int (h)])), (hw, .inl (dW, 16, .inl (f))), (hc, .inl (dK, 256, .inl (g)))] s.heap.size = A at hD ⊢
  have hA : ∀ q : Nat, s.heap.size ≤ q → A q := fun q h => by rw [← hAe]; exact Or.inr h
  have hS : va_S A s.heap s.heap [] := va_S.rf
  have hP : va_P D vwCl [(h0, .inr (1, [.ref hw, .ref hc, .int (h)])), (hw, .inl (dW, 16, .inl (f))), (hc, .inl (dK, 256, .inl (g)))] s.heap := hP
  have hl := lv_entry ([.ref h0, .int x1, .int x2]) (n := 3) (Nat.le_of_ble_eq_true rfl)
  rw [lg_entry_eq]
  generalize (lg_sl ([.ref h0, .int x1, .int x2]) ++ List.replicate (3 - (lg_sl ([.ref h0, .int x1, .int x2])).length) Slot.unset).toArray = ls at hl ⊢
  have hl : lv_has ls 3 [(0, .ref h0), (1, .int x1), (2, .int x2)] := hl
  refine lv_aload_n hx hb dX1_flip_0 rfl (lv_at hl 0 rfl) ?_
  refine lv_iload_n hx hb dX1_flip_1 rfl (lv_at hl 1 rfl) ?_
  refine ca_X1_isWord S ⟨Nat.le_of_ble_eq_true rfl, Nat.le_of_ble_eq_true rfl⟩ (va_recv hK hP (ci := 1) (q0 := 0) rfl rfl) hl.1 (Nat.le_of_ble_eq_true rfl) dX1_flip_2 ⟨Nat.zero_le _, Nat.zero_le _⟩ ?_
  refine lv_if_eq (tgt := 18) hx hb dX1_flip_5 (by decide) (fun c5 => ?_) (fun c5 => ?_)
  · refine lv_iconst (v := -1) hx hb dX1_flip_18 (by decide) ?_
    exact W.iret (v := (-1)) hx hb hr (fun t ht hW => ⟨⟨(-1), f, rfl, by show ((-1), f) = mo_flip f x1 x2; rw [mo_flip, if_pos c5], by rw [ht]; exact hP, hD⟩, hS.F ht⟩) hS.2.2 dX1_flip_19 hlocks
  · refine lv_iload_n hx hb dX1_flip_8 rfl (lv_at hl 2 rfl) ?_
    refine lv_if_lt (tgt := 18) hx hb dX1_flip_9 (by decide) (fun c9 => ?_) (fun c9 => ?_)
    · refine lv_iconst (v := -1) hx hb dX1_flip_18 (by decide) ?_
      exact W.iret (v := (-1)) hx hb hr (fun t ht hW => ⟨⟨(-1), f, rfl, by show ((-1), f) = mo_flip f x1 x2; rw [mo_flip, if_neg c5, if_pos c9], by rw [ht]; exact hP, hD⟩, hS.F ht⟩) hS.2.2 dX1_flip_19 hlocks
    · refine lv_iload_n hx hb dX1_flip_12 rfl (lv_at hl 2 rfl) ?_
      refine lv_bipush (v := 12) hx hb dX1_flip_13 (by decide) ?_
      refine lv_icmp_le (tgt := 20) hx hb dX1_flip_15 (by decide) (fun c15 => ?_) (fun c15 => ?_)
      · refine lv_aload_n hx hb dX1_flip_20 rfl (lv_at hl 0 rfl) ?_
        refine va_get (D := D) (ci := 1) (v := .ref hw) (C := RX1) (T := TX1) (N := 3) hx hb hts in_X1 hown hK hP 0 rfl rfl 0 (by decide) (hts _ q152) (fun _ h9 => h9) rfl dX1_flip_21 ?_
        refine lv_iload_n hx hb dX1_flip_24 rfl (lv_at hl 1 rfl) ?_
        refine lv_aload_n hx hb dX1_flip_25 rfl (lv_at hl 0 rfl) ?_
        refine va_get (D := D) (ci := 1) (v := .ref hw) (C := RX1) (T := TX1) (N := 3) hx hb hts in_X1 hown hK hP 0 rfl rfl 0 (by decide) (hts _ q152) (fun _ h9 => h9) rfl dX1_flip_26 ?_
        refine lv_iload_n hx hb dX1_flip_29 rfl (lv_at hl 1 rfl) ?_
        refine va_iald hx hb hK hP 1 0 rfl rfl (hm_isWord_in c5) dX1_flip_30 ?_
        refine lv_iconst (v := 1) hx hb dX1_flip_31 (by decide) ?_
        refine lv_iload_n hx hb dX1_flip_32 rfl (lv_at hl 2 rfl) ?_
        refine lv_ishl hx hb dX1_flip_33 ?_
        refine lv_ixor hx hb dX1_flip_34 ?_
        refine va_iast hx hb hK hP hD hS 1 0 rfl rfl (hm_isWord_in c5) dX1_flip_35 (fun H locs hP hD hS => ?_)
        have hP : va_P D vwCl [(h0, .inr (1, [.ref hw, .ref hc, .int (h)])), (hw, .inl (dW, 16, .inl (upd f x1.toNatClampNeg ((f x1.toNatClampNeg) ^^^ ((1 : Int32) <<< (x2 &&& 31)))))), (hc, .inl (dK, 256, .inl (g)))] H := hP
        have hD : va_D A [(h0, .inr (1, [.ref hw, .ref hc, .int (h)])), (hw, .inl (dW, 16, .inl (upd f x1.toNatClampNeg ((f x1.toNatClampNeg) ^^^ ((1 : Int32) <<< (x2 &&& 31)))))), (hc, .inl (dK, 256, .inl (g)))] := hD
        refine lv_aload_n hx hb dX1_flip_36 rfl (lv_at hl 0 rfl) ?_
        refine va_get (D := D) (ci := 1) (v := .ref hw) (C := RX1) (T := TX1) (N := 3) hx hb hts in_X1 hown hK hP 0 rfl rfl 0 (by decide) (hts _ q152) (fun _ h9 => h9) rfl dX1_flip_37 ?_
        refine lv_iload_n hx hb dX1_flip_40 rfl (lv_at hl 1 rfl) ?_
        refine va_iald hx hb hK hP 1 0 rfl rfl (hm_isWord_in c5) dX1_flip_41 ?_
        exact W.iret (v := ((upd f x1.toNatClampNeg ((f x1.toNatClampNeg) ^^^ ((1 : Int32) <<< (x2 &&& 31)))) x1.toNatClampNeg)) hx hb hr (fun t ht hW => ⟨⟨((upd f x1.toNatClampNeg ((f x1.toNatClampNeg) ^^^ ((1 : Int32) <<< (x2 &&& 31)))) x1.toNatClampNeg), upd f x1.toNatClampNeg ((f x1.toNatClampNeg) ^^^ ((1 : Int32) <<< (x2 &&& 31))), rfl, by show (((upd f x1.toNatClampNeg ((f x1.toNatClampNeg) ^^^ ((1 : Int32) <<< (x2 &&& 31)))) x1.toNatClampNeg), upd f x1.toNatClampNeg ((f x1.toNatClampNeg) ^^^ ((1 : Int32) <<< (x2 &&& 31)))) = mo_flip f x1 x2; rw [mo_flip, if_neg c5, if_neg c9, if_pos c15], by rw [ht]; exact hP, hD⟩, hS.F ht⟩) hS.2.2 dX1_flip_42 hlocks
      · refine lv_iconst (v := -1) hx hb dX1_flip_18 (by decide) ?_
        exact W.iret (v := (-1)) hx hb hr (fun t ht hW => ⟨⟨(-1), f, rfl, by show ((-1), f) = mo_flip f x1 x2; rw [mo_flip, if_neg c5, if_neg c9, if_neg c15], by rw [ht]; exact hP, hD⟩, hS.F ht⟩) hS.2.2 dX1_flip_19 hlocks
set_option maxHeartbeats 4000000 in
set_option maxRecDepth 100000 in
theorem mt_X1_repair (l : Launch) (D : va_G) (h0 hw hc : Nat) (dW dK : ClassId) (f g : Nat → Int32) (h : Int32) (sz : Nat) (x1 : Int32) : Met l yX1_repair (ws_ yX1_repair cX1_repair 5 (some .int)) ({ frames := 3, cells := 0, slots := 0, locals := 68 }) (va_Pc [.ref h0, .int x1] (fun U => U.heap.size = sz ∧ va_P D vwCl [(h0, .inr (1, [.ref hw, .ref hc, .int (h)])), (hw, .inl (dW, 16, .inl (f))), (hc, .inl (dK, 256, .inl (g)))] U.heap ∧ va_K D vwCl [(dW, .int), (dK, .int)] U ∧ va_D (fun _ => True) [(h0, .inr (1, [.ref hw, .ref hc, .int (h)])), (hw, .inl (dW, 16, .inl (f))), (hc, .inl (dK, 256, .inl (g)))])) (va_Qi (fun (r : Int32) (u : Nat → Int32) => (r, u) = mo_rep f g x1) (fun u t => va_P D vwCl [(h0, .inr (1, [.ref hw, .ref hc, .int (h)])), (hw, .inl (dW, 16, .inl (u))), (hc, .inl (dK, 256, .inl (g)))] t.heap ∧ va_D (va_A [(h0, .inr (1, [.ref hw, .ref hc, .int (h)])), (hw, .inl (dW, 16, .inl (f))), (hc, .inl (dK, 256, .inl (g)))] sz) [(h0, .inr (1, [.ref hw, .ref hc, .int (h)])), (hw, .inl (dW, 16, .inl (u))), (hc, .inl (dK, 256, .inl (g)))]) (va_A [(h0, .inr (1, [.ref hw, .ref hc, .int (h)])), (hw, .inl (dW, 16, .inl (f))), (hc, .inl (dK, 256, .inl (g)))] sz)) 0 0 (va_A [(h0, .inr (1, [.ref hw, .ref hc, .int (h)])), (hw, .inl (dW, 16, .inl (f))), (hc, .inl (dK, 256, .inl (g)))] sz) := by
  refine Met.ofW (cc := cX1_repair) (maxL := 5) (ret := (some .int)) (by decide) rfl ?_
  intro p e s m args below meth c s₁ B hml hv
  obtain ⟨rfl, hsz, hP, hK, hD0⟩ := hv
  have hx := B.exec
  have hb := B.bytes
  have hr := B.returns
  have hts := atoms_spec (ws := (ws_ yX1_repair cX1_repair 5 (some .int))) B.pre
  have hts : ∀ w ∈ lw_all, w.before _ s = true := fun w h => hts w (List.mem_cons_of_mem _ h)
  have hown : s.vm.findClass RX1 = some m.cls := findClass_of_methodNamed B.named
  have hlocks := B.notSynchronized
  have S : CallFix p m c cX1_repair 5 s _ lw_all RX1 := ⟨hx, hb, hml, hown, hts⟩
  subst hsz
  have hD := hD0.self (sz := s.heap.size)
  generalize hAe : va_A [(h0, .inr (1, [.ref hw, .ref hc, .int (h)])), (hw, .inl (dW, 16, .inl (f))), (hc, .inl (dK, 256, .inl (g)))] s.heap.size = A at hD ⊢
  have hA : ∀ q : Nat, s.heap.size ≤ q → A q := fun q h => by rw [← hAe]; exact Or.inr h
  have hS : va_S A s.heap s.heap [] := va_S.rf
  have hP : va_P D vwCl [(h0, .inr (1, [.ref hw, .ref hc, .int (h)])), (hw, .inl (dW, 16, .inl (f))), (hc, .inl (dK, 256, .inl (g)))] s.heap := hP
  have hl := lv_entry ([.ref h0, .int x1]) (n := 5) (Nat.le_of_ble_eq_true rfl)
  rw [lg_entry_eq]
  generalize (lg_sl ([.ref h0, .int x1]) ++ List.replicate (5 - (lg_sl ([.ref h0, .int x1])).length) Slot.unset).toArray = ls at hl ⊢
  have hl : lv_has ls 5 [(0, .ref h0), (1, .int x1)] := hl
  refine lv_aload_n hx hb dX1_repair_0 rfl (lv_at hl 0 rfl) ?_
  refine lv_iload_n hx hb dX1_repair_1 rfl (lv_at hl 1 rfl) ?_
  refine ca_X1_read S ⟨Nat.le_of_ble_eq_true rfl, Nat.le_of_ble_eq_true rfl⟩ hK hP hl.1 (Nat.le_of_ble_eq_true rfl) dX1_repair_2 ⟨Nat.zero_le _, Nat.zero_le _⟩ ?_
  refine lv_istore_n (lv' := [(2, .int (mo_read f g x1)), (0, .ref h0), (1, .int x1)]) hx hb dX1_repair_5 rfl hl (by decide) rfl (fun ls hl => ?_)
  refine lv_iload_n hx hb dX1_repair_6 rfl (lv_at hl 0 rfl) ?_
  refine lv_if_ge (tgt := 12) hx hb dX1_repair_7 (by decide) (fun c7 => ?_) (fun c7 => ?_)
  · refine lv_aload_n hx hb dX1_repair_12 rfl (lv_at hl 1 rfl) ?_
    refine va_get (D := D) (ci := 1) (v := .ref hw) (C := RX1) (T := TX1) (N := 3) hx hb hts in_X1 hown hK hP 0 rfl rfl 0 (by decide) (hts _ q152) (fun _ h9 => h9) rfl dX1_repair_13 ?_
    refine lv_iload_n hx hb dX1_repair_16 rfl (lv_at hl 2 rfl) ?_
    refine va_iald hx hb hK hP 1 0 rfl rfl (mo_read_in (Int32.not_lt.mpr c7)).2 dX1_repair_17 ?_
    refine lv_istore_n (lv' := [(3, .int (f x1.toNatClampNeg)), (2, .int (mo_read f g x1)), (0, .ref h0), (1, .int x1)]) hx hb dX1_repair_18 rfl hl (by decide) rfl (fun ls hl => ?_)
    refine lv_aload_n hx hb dX1_repair_19 rfl (lv_at hl 2 rfl) ?_
    refine va_get (D := D) (ci := 1) (v := .ref hw) (C := RX1) (T := TX1) (N := 3) hx hb hts in_X1 hown hK hP 0 rfl rfl 0 (by decide) (hts _ q152) (fun _ h9 => h9) rfl dX1_repair_20 ?_
    refine lv_iload_n hx hb dX1_repair_23 rfl (lv_at hl 3 rfl) ?_
    refine lv_aload_n hx hb dX1_repair_24 rfl (lv_at hl 2 rfl) ?_
    refine va_get (D := D) (ci := 1) (v := .ref hc) (C := RX1) (T := TX1) (N := 3) hx hb hts in_X1 hown hK hP 0 rfl rfl 1 (by decide) (hts _ q153) (fun _ h9 => h9) rfl dX1_repair_25 ?_
    refine lv_iload_n hx hb dX1_repair_28 rfl (lv_at hl 1 rfl) ?_
    refine va_iald hx hb hK hP 2 1 rfl rfl (mo_read_in (Int32.not_lt.mpr c7)).1 dX1_repair_29 ?_
    refine va_iast hx hb hK hP hD hS 1 0 rfl rfl (mo_read_in (Int32.not_lt.mpr c7)).2 dX1_repair_30 (fun H locs hP hD hS => ?_)
    have hP : va_P D vwCl [(h0, .inr (1, [.ref hw, .ref hc, .int (h)])), (hw, .inl (dW, 16, .inl (upd f x1.toNatClampNeg (g (mo_read f g x1).toNatClampNeg)))), (hc, .inl (dK, 256, .inl (g)))] H := hP
    have hD : va_D A [(h0, .inr (1, [.ref hw, .ref hc, .int (h)])), (hw, .inl (dW, 16, .inl (upd f x1.toNatClampNeg (g (mo_read f g x1).toNatClampNeg)))), (hc, .inl (dK, 256, .inl (g)))] := hD
    refine lv_iconst (v := 0) hx hb dX1_repair_31 (by decide) ?_
    refine lv_istore (lv' := [(4, .int 0), (3, .int (f x1.toNatClampNeg)), (2, .int (mo_read f g x1)), (0, .ref h0), (1, .int x1)]) hx hb dX1_repair_32 hl (by decide) rfl (fun ls hl => ?_)
    obtain ⟨T34, hT34⟩ : ∃ T, T = mo_difL (f x1.toNatClampNeg) (upd f x1.toNatClampNeg (g (mo_read f g x1).toNatClampNeg) x1.toNatClampNeg) 13 0 := ⟨_, rfl⟩
    have lp34 : ∀ (n34 : Nat) (x4_34 : Int32), n34 ≤ 13 → x4_34 = nI (13 - n34) → mo_difL (f x1.toNatClampNeg) (upd f x1.toNatClampNeg (g (mo_read f g x1).toNatClampNeg) x1.toNatClampNeg) n34 x4_34 = T34 → ∀ (H : Heap) (locs : List Loc), va_P D vwCl [(h0, .inr (1, [.ref hw, .ref hc, .int (h)])), (hw, .inl (dW, 16, .inl (upd f x1.toNatClampNeg (g (mo_read f g x1).toNatClampNeg)))), (hc, .inl (dK, 256, .inl (g)))] H → va_D A [(h0, .inr (1, [.ref hw, .ref hc, .int (h)])), (hw, .inl (dW, 16, .inl (upd f x1.toNatClampNeg (g (mo_read f g x1).toNatClampNeg)))), (hc, .inl (dK, 256, .inl (g)))] → va_S A s.heap H locs → ∀ ls : Array Slot, lv_has ls 5 [(4, .int x4_34), (3, .int (f x1.toNatClampNeg)), (2, .int (mo_read f g x1)), (0, .ref h0), (1, .int x1)] → W p l e (headSpec (ws_ yX1_repair cX1_repair 5 (some .int)) ({ frames := 3, cells := 0, slots := 0, locals := 68 })).room s m ([.ref h0, .int x1] : List Value).toArray below meth c H locs 0 0 (MQ below (va_Qi (fun (r : Int32) (u : Nat → Int32) => (r, u) = mo_rep f g x1) (fun u t => va_P D vwCl [(h0, .inr (1, [.ref hw, .ref hc, .int (h)])), (hw, .inl (dW, 16, .inl (u))), (hc, .inl (dK, 256, .inl (g)))] t.heap ∧ va_D A [(h0, .inr (1, [.ref hw, .ref hc, .int (h)])), (hw, .inl (dW, 16, .inl (u))), (hc, .inl (dK, 256, .inl (g)))]) A) ([.ref h0, .int x1] : List Value).toArray s 0 0 A) (F0 m 34 ls []) := by
      intro n34
      induction n34 with
      | zero =>
        intro x4_34 hn34 e34 hI34 H locs hP hD hS ls hl
        refine lv_iload hx hb dX1_repair_34 (lv_at hl 0 rfl) ?_
        refine lv_bipush (v := 12) hx hb dX1_repair_36 (by decide) ?_
        refine lv_icmp_gt (tgt := 72) hx hb dX1_repair_38 (by decide) (fun c38 => ?_) (fun c38 => ?_)
        · refine lv_bipush (v := 13) hx hb dX1_repair_72 (by decide) ?_
          exact W.iret (v := 13) hx hb hr (fun t ht hW => ⟨⟨13, upd f x1.toNatClampNeg (g (mo_read f g x1).toNatClampNeg), rfl, by have h9 : 13 = T34 := hI34; show (13, upd f x1.toNatClampNeg (g (mo_read f g x1).toNatClampNeg)) = mo_rep f g x1; rw [h9, hT34, mo_rep, if_pos c7], by rw [ht]; exact hP, hD⟩, hS.F ht⟩) hS.2.2 dX1_repair_74 hlocks
        · exact absurd (hm_gt0 (N := 12) rfl (by decide) e34) c38
      | succ n34 ih34 =>
        intro x4_34 hn34 e34 hI34 H locs hP hD hS ls hl
        refine lv_iload hx hb dX1_repair_34 (lv_at hl 0 rfl) ?_
        refine lv_bipush (v := 12) hx hb dX1_repair_36 (by decide) ?_
        refine lv_icmp_gt (tgt := 72) hx hb dX1_repair_38 (by decide) (fun c38 => ?_) (fun c38 => ?_)
        · exact absurd c38 (hm_gtS (N := 12) rfl (by decide) hn34 e34)
        · refine lv_aload_n hx hb dX1_repair_41 rfl (lv_at hl 3 rfl) ?_
          refine lv_iload_n hx hb dX1_repair_42 rfl (lv_at hl 1 rfl) ?_
          refine lv_iload hx hb dX1_repair_43 (lv_at hl 0 rfl) ?_
          refine ca_X1_bit S ⟨Nat.le_of_ble_eq_true rfl, Nat.le_of_ble_eq_true rfl⟩ (va_recv hK hP (ci := 1) (q0 := 0) rfl rfl) hl.1 (Nat.le_of_ble_eq_true rfl) dX1_repair_45 ⟨Nat.zero_le _, Nat.zero_le _⟩ ?_
          refine lv_aload_n hx hb dX1_repair_48 rfl (lv_at hl 3 rfl) ?_
          refine lv_aload_n hx hb dX1_repair_49 rfl (lv_at hl 3 rfl) ?_
          refine va_get (D := D) (ci := 1) (v := .ref hw) (C := RX1) (T := TX1) (N := 3) hx hb hts in_X1 hown hK hP 0 rfl rfl 0 (by decide) (hts _ q152) (fun _ h9 => h9) rfl dX1_repair_50 ?_
          refine lv_iload_n hx hb dX1_repair_53 rfl (lv_at hl 4 rfl) ?_
          refine va_iald hx hb hK hP 1 0 rfl rfl (mo_read_in (Int32.not_lt.mpr c7)).2 dX1_repair_54 ?_
          refine lv_iload hx hb dX1_repair_55 (lv_at hl 0 rfl) ?_
          refine ca_X1_bit S ⟨Nat.le_of_ble_eq_true rfl, Nat.le_of_ble_eq_true rfl⟩ (va_recv hK hP (ci := 1) (q0 := 0) rfl rfl) hl.1 (Nat.le_of_ble_eq_true rfl) dX1_repair_57 ⟨Nat.zero_le _, Nat.zero_le _⟩ ?_
          refine lv_icmp_eq (tgt := 66) hx hb dX1_repair_60 (by decide) (fun c60 => ?_) (fun c60 => ?_)
          · refine lv_iinc (v := (x4_34 + 1)) (lv' := [(4, .int (x4_34 + 1)), (3, .int (f x1.toNatClampNeg)), (2, .int (mo_read f g x1)), (0, .ref h0), (1, .int x1)]) hx hb dX1_repair_66 hl (k := 0) rfl rfl (by decide) rfl (fun ls hl => ?_)
            refine lv_goto (tgt := 34) hx hb dX1_repair_69 (by decide) ?_
            exact ih34 (x4_34 + 1) (Nat.le_of_succ_le hn34) (hm_nx hn34 e34) (by rw [mo_difL, if_pos c60] at hI34; exact hI34) _ _ hP hD hS ls (lv_sub hl [0, 1, 2, 3, 4] rfl)
          · refine lv_iload hx hb dX1_repair_63 (lv_at hl 0 rfl) ?_
            exact W.iret (v := x4_34) hx hb hr (fun t ht hW => ⟨⟨x4_34, upd f x1.toNatClampNeg (g (mo_read f g x1).toNatClampNeg), rfl, by rw [mo_difL, if_neg c60] at hI34; show (x4_34, upd f x1.toNatClampNeg (g (mo_read f g x1).toNatClampNeg)) = mo_rep f g x1; rw [hI34, hT34, mo_rep, if_pos c7], by rw [ht]; exact hP, hD⟩, hS.F ht⟩) hS.2.2 dX1_repair_65 hlocks
    exact lp34 13 0 (by omega) (by decide) hT34.symm _ _ hP hD hS ls hl
  · refine lv_iload_n hx hb dX1_repair_10 rfl (lv_at hl 0 rfl) ?_
    exact W.iret (v := (mo_read f g x1)) hx hb hr (fun t ht hW => ⟨⟨(mo_read f g x1), f, rfl, by show ((mo_read f g x1), f) = mo_rep f g x1; rw [mo_rep, if_neg c7], by rw [ht]; exact hP, hD⟩, hS.F ht⟩) hS.2.2 dX1_repair_11 hlocks
set_option maxHeartbeats 4000000 in
theorem ca_X1_repair {p : Program} {l : Launch} {e : Env} {R : Room} {s : State} {m : MethodId} {args : Array Value} {below : List Frame} {meth : Method} {c : Code} {H : Heap} {locs : List Loc} {cells slots : Nat} {Q : State → Prop} {cc : ByteArray} {nL pc : Nat} {ls : Array Slot} {rest : List Value} {x1 : Int32} {D : va_G} {h0 hw hc : Nat} {dW dK : ClassId} {f g : Nat → Int32} {h : Int32} {A : Nat → Prop} {H0 : Heap} (S : CallFix p m c cc nL s args lw_all RX1) (hR : 3 + 1 ≤ R.frames ∧ 8 + (5 + 11) + 68 ≤ R.locals) (hK : va_K D vwCl [(dW, .int), (dK, .int)] s) (hP : va_P D vwCl [(h0, .inr (1, [.ref hw, .ref hc, .int (h)])), (hw, .inl (dW, 16, .inl (f))), (hc, .inl (dK, 256, .inl (g)))] H) (hD : va_D A [(h0, .inr (1, [.ref hw, .ref hc, .int (h)])), (hw, .inl (dW, 16, .inl (f))), (hc, .inl (dK, 256, .inl (g)))]) (hS : va_S A H0 H locs) (hA : ∀ q : Nat, H0.size ≤ q → A q) (hsize : ls.size = nL) (hW : (rest.map fun v => v.category).sum ≤ 8) (hdg : decode cc pc = .ok (.invokevirtual 45, 3)) (hf : cells ≤ R.cells ∧ slots ≤ R.slots) (kk : ∀ (H : Heap) (locs : List Loc), va_P D vwCl [(h0, .inr (1, [.ref hw, .ref hc, .int (h)])), (hw, .inl (dW, 16, .inl ((mo_rep f g x1).2))), (hc, .inl (dK, 256, .inl (g)))] H → va_D A [(h0, .inr (1, [.ref hw, .ref hc, .int (h)])), (hw, .inl (dW, 16, .inl ((mo_rep f g x1).2))), (hc, .inl (dK, 256, .inl (g)))] → va_S A H0 H locs → W p l e R s m args below meth c H locs cells slots Q (F0 m (pc + 3) ls (.int ((mo_rep f g x1).1) :: rest))) : W p l e R s m args below meth c H locs cells slots Q (F0 m pc ls (.int x1 :: .ref h0 :: rest)) := by
  have hF := va_free (wc := [(h0, .inr (1, [.ref hw, .ref hc, .int (h)])), (hw, .inl (dW, 16, .inl (f))), (hc, .inl (dK, 256, .inl (g)))]) hD hS hA [0, 1, 2] rfl
  refine va_calli (va_runV (As := [.int x1]) (rest := rest) S (mt_X1_repair l D h0 hw hc dW dK f g h H.size x1) (cwV 1 S.2.2.2.2 (lw_V q192 q184 q185 q19 q186) rfl rfl rfl (by decide +kernel) hR) ⟨fun a U g mk q => by obtain ⟨q0, q1, qP, qK, qD⟩ := q; exact ⟨q0, q1, qP, va_K.moved (u := U) (U := U.calling g mk a) (Vm.Alike.refl U.vm) qK, qD⟩, va_recv hK hP (ci := 1) (q0 := 0) rfl rfl, fun U hU hW => ⟨rfl, by rw [hU], by rw [hU]; exact hP, va_K.moved hW.alike hK, hD.weaken (fun _ _ _ _ => trivial)⟩⟩ rfl rfl hsize rfl (lv_room hW) hdg hf) hS (fun q _ h => hF q h) hF (fun r u t H1 locs1 ht hvm hw hB hz hk hS1 => ?_)
  obtain ⟨hP1, hD1⟩ := hB
  rw [ht] at hP1
  rw [← hw] at kk
  exact kk H1 locs1 hP1 (hD1.weaken (fun _ q _ h => hF q.1 h)) hS1
set_option maxHeartbeats 4000000 in
set_option maxRecDepth 100000 in
theorem mt_X1_scrub (l : Launch) (D : va_G) (h0 hw hc : Nat) (dW dK : ClassId) (f g : Nat → Int32) (h : Int32) (sz : Nat) (x1 : Int32) : Met l yX1_scrub (ws_ yX1_scrub cX1_scrub 6 (some .int)) ({ frames := 4, cells := 0, slots := 0, locals := 92 }) (va_Pc [.ref h0, .int x1] (fun U => U.heap.size = sz ∧ va_P D vwCl [(h0, .inr (1, [.ref hw, .ref hc, .int (h)])), (hw, .inl (dW, 16, .inl (f))), (hc, .inl (dK, 256, .inl (g)))] U.heap ∧ va_K D vwCl [(dW, .int), (dK, .int)] U ∧ va_D (fun _ => True) [(h0, .inr (1, [.ref hw, .ref hc, .int (h)])), (hw, .inl (dW, 16, .inl (f))), (hc, .inl (dK, 256, .inl (g)))])) (va_Qi (fun (r : Int32) (u : (Nat → Int32) × Int32) => (r, u) = mo_scr f g h x1) (fun u t => va_P D vwCl [(h0, .inr (1, [.ref hw, .ref hc, .int (u.2)])), (hw, .inl (dW, 16, .inl (u.1))), (hc, .inl (dK, 256, .inl (g)))] t.heap ∧ va_D (va_A [(h0, .inr (1, [.ref hw, .ref hc, .int (h)])), (hw, .inl (dW, 16, .inl (f))), (hc, .inl (dK, 256, .inl (g)))] sz) [(h0, .inr (1, [.ref hw, .ref hc, .int (u.2)])), (hw, .inl (dW, 16, .inl (u.1))), (hc, .inl (dK, 256, .inl (g)))]) (va_A [(h0, .inr (1, [.ref hw, .ref hc, .int (h)])), (hw, .inl (dW, 16, .inl (f))), (hc, .inl (dK, 256, .inl (g)))] sz)) 0 0 (va_A [(h0, .inr (1, [.ref hw, .ref hc, .int (h)])), (hw, .inl (dW, 16, .inl (f))), (hc, .inl (dK, 256, .inl (g)))] sz) := by
  refine Met.ofW (cc := cX1_scrub) (maxL := 6) (ret := (some .int)) (by decide) rfl ?_
  intro p e s m args below meth c s₁ B hml hv
  obtain ⟨rfl, hsz, hP, hK, hD0⟩ := hv
  have hx := B.exec
  have hb := B.bytes
  have hr := B.returns
  have hts := atoms_spec (ws := (ws_ yX1_scrub cX1_scrub 6 (some .int))) B.pre
  have hts : ∀ w ∈ lw_all, w.before _ s = true := fun w h => hts w (List.mem_cons_of_mem _ h)
  have hown : s.vm.findClass RX1 = some m.cls := findClass_of_methodNamed B.named
  have hlocks := B.notSynchronized
  have S : CallFix p m c cX1_scrub 6 s _ lw_all RX1 := ⟨hx, hb, hml, hown, hts⟩
  subst hsz
  have hD := hD0.self (sz := s.heap.size)
  generalize hAe : va_A [(h0, .inr (1, [.ref hw, .ref hc, .int (h)])), (hw, .inl (dW, 16, .inl (f))), (hc, .inl (dK, 256, .inl (g)))] s.heap.size = A at hD ⊢
  have hA : ∀ q : Nat, s.heap.size ≤ q → A q := fun q h => by rw [← hAe]; exact Or.inr h
  have hS : va_S A s.heap s.heap [] := va_S.rf
  have hP : va_P D vwCl [(h0, .inr (1, [.ref hw, .ref hc, .int (h)])), (hw, .inl (dW, 16, .inl (f))), (hc, .inl (dK, 256, .inl (g)))] s.heap := hP
  have hl := lv_entry ([.ref h0, .int x1]) (n := 6) (Nat.le_of_ble_eq_true rfl)
  rw [lg_entry_eq]
  generalize (lg_sl ([.ref h0, .int x1]) ++ List.replicate (6 - (lg_sl ([.ref h0, .int x1])).length) Slot.unset).toArray = ls at hl ⊢
  have hl : lv_has ls 6 [(0, .ref h0), (1, .int x1)] := hl
  refine lv_iload_n hx hb dX1_scrub_0 rfl (lv_at hl 1 rfl) ?_
  have j21 : ∀ (y21 : Int32), y21 = (hm_left x1) → ∀ ls : Array Slot, lv_has ls 6 [(2, .int y21), (0, .ref h0), (1, .int x1)] → W p l e (headSpec (ws_ yX1_scrub cX1_scrub 6 (some .int)) ({ frames := 4, cells := 0, slots := 0, locals := 92 })).room s m ([.ref h0, .int x1] : List Value).toArray below meth c s.heap [] 0 0 (MQ below (va_Qi (fun (r : Int32) (u : (Nat → Int32) × Int32) => (r, u) = mo_scr f g h x1) (fun u t => va_P D vwCl [(h0, .inr (1, [.ref hw, .ref hc, .int (u.2)])), (hw, .inl (dW, 16, .inl (u.1))), (hc, .inl (dK, 256, .inl (g)))] t.heap ∧ va_D A [(h0, .inr (1, [.ref hw, .ref hc, .int (u.2)])), (hw, .inl (dW, 16, .inl (u.1))), (hc, .inl (dK, 256, .inl (g)))]) A) ([.ref h0, .int x1] : List Value).toArray s 0 0 A) (F0 m 21 ls []) := by
    intro y21 hy21 ls hl
    subst hy21
    refine lv_iconst (v := 0) hx hb dX1_scrub_21 (by decide) ?_
    refine lv_istore_n (lv' := [(3, .int 0), (2, .int (hm_left x1)), (0, .ref h0), (1, .int x1)]) hx hb dX1_scrub_22 rfl hl (by decide) rfl (fun ls hl => ?_)
    refine lv_iconst (v := 0) hx hb dX1_scrub_23 (by decide) ?_
    refine lv_istore (lv' := [(4, .int 0), (3, .int 0), (2, .int (hm_left x1)), (0, .ref h0), (1, .int x1)]) hx hb dX1_scrub_24 hl (by decide) rfl (fun ls hl => ?_)
    obtain ⟨T26, hT26⟩ : ∃ T, T = mo_scrL g (hm_left x1).toNatClampNeg f h 0 := ⟨_, rfl⟩
    have lp26 : ∀ (n26 : Nat) (x3_26 x4_26 : Int32) (f_26 : Nat → Int32) (h_26 : Int32), n26 ≤ (hm_left x1).toNatClampNeg → x4_26 = nI ((hm_left x1).toNatClampNeg - n26) → mo_scrL g n26 f_26 h_26 x3_26 = T26 → ∀ (H : Heap) (locs : List Loc), va_P D vwCl [(h0, .inr (1, [.ref hw, .ref hc, .int (h_26)])), (hw, .inl (dW, 16, .inl (f_26))), (hc, .inl (dK, 256, .inl (g)))] H → va_D A [(h0, .inr (1, [.ref hw, .ref hc, .int (h_26)])), (hw, .inl (dW, 16, .inl (f_26))), (hc, .inl (dK, 256, .inl (g)))] → va_S A s.heap H locs → ∀ ls : Array Slot, lv_has ls 6 [(4, .int x4_26), (3, .int x3_26), (2, .int (hm_left x1)), (0, .ref h0), (1, .int x1)] → W p l e (headSpec (ws_ yX1_scrub cX1_scrub 6 (some .int)) ({ frames := 4, cells := 0, slots := 0, locals := 92 })).room s m ([.ref h0, .int x1] : List Value).toArray below meth c H locs 0 0 (MQ below (va_Qi (fun (r : Int32) (u : (Nat → Int32) × Int32) => (r, u) = mo_scr f g h x1) (fun u t => va_P D vwCl [(h0, .inr (1, [.ref hw, .ref hc, .int (u.2)])), (hw, .inl (dW, 16, .inl (u.1))), (hc, .inl (dK, 256, .inl (g)))] t.heap ∧ va_D A [(h0, .inr (1, [.ref hw, .ref hc, .int (u.2)])), (hw, .inl (dW, 16, .inl (u.1))), (hc, .inl (dK, 256, .inl (g)))]) A) ([.ref h0, .int x1] : List Value).toArray s 0 0 A) (F0 m 26 ls []) := by
      intro n26
      induction n26 with
      | zero =>
        intro x3_26 x4_26 f_26 h_26 hn26 e26 hI26 H locs hP hD hS ls hl
        refine lv_iload hx hb dX1_scrub_26 (lv_at hl 0 rfl) ?_
        refine lv_iload_n hx hb dX1_scrub_28 rfl (lv_at hl 2 rfl) ?_
        refine lv_icmp_ge (tgt := 76) hx hb dX1_scrub_29 (by decide) (fun c29 => ?_) (fun c29 => ?_)
        · refine lv_iload_n hx hb dX1_scrub_76 rfl (lv_at hl 1 rfl) ?_
          exact W.iret (v := x3_26) hx hb hr (fun t ht hW => ⟨⟨x3_26, (f_26, h_26), rfl, by have h9 : (x3_26, (f_26, h_26)) = T26 := hI26; exact h9.trans (hT26.trans (by rw [mo_scr])), by rw [ht]; exact hP, hD⟩, hS.F ht⟩) hS.2.2 dX1_scrub_77 hlocks
        · exact absurd (hm_ge0 (hm_left_nI x1) e26) c29
      | succ n26 ih26 =>
        intro x3_26 x4_26 f_26 h_26 hn26 e26 hI26 H locs hP hD hS ls hl
        refine lv_iload hx hb dX1_scrub_26 (lv_at hl 0 rfl) ?_
        refine lv_iload_n hx hb dX1_scrub_28 rfl (lv_at hl 2 rfl) ?_
        refine lv_icmp_ge (tgt := 76) hx hb dX1_scrub_29 (by decide) (fun c29 => ?_) (fun c29 => ?_)
        · exact absurd c29 (hm_geS (hm_left_nI x1) (hm_left_lt x1) hn26 e26)
        · refine lv_aload_n hx hb dX1_scrub_32 rfl (lv_at hl 3 rfl) ?_
          refine lv_aload_n hx hb dX1_scrub_33 rfl (lv_at hl 3 rfl) ?_
          refine va_get (D := D) (ci := 1) (v := .int h_26) (C := RX1) (T := TX1) (N := 3) hx hb hts in_X1 hown hK hP 0 rfl rfl 2 (by decide) (hts _ q154) (fun _ h9 => h9) rfl dX1_scrub_34 ?_
          refine ca_X1_repair S ⟨Nat.le_of_ble_eq_true rfl, Nat.le_of_ble_eq_true rfl⟩ hK hP hD hS hA hl.1 (Nat.le_of_ble_eq_true rfl) dX1_scrub_37 ⟨Nat.zero_le _, Nat.zero_le _⟩ (fun H locs hP hD hS => ?_)
          have hP : va_P D vwCl [(h0, .inr (1, [.ref hw, .ref hc, .int (h_26)])), (hw, .inl (dW, 16, .inl ((mo_rep f_26 g h_26).2))), (hc, .inl (dK, 256, .inl (g)))] H := hP
          have hD : va_D A [(h0, .inr (1, [.ref hw, .ref hc, .int (h_26)])), (hw, .inl (dW, 16, .inl ((mo_rep f_26 g h_26).2))), (hc, .inl (dK, 256, .inl (g)))] := hD
          refine lv_istore (lv' := [(5, .int (mo_rep f_26 g h_26).1), (4, .int x4_26), (3, .int x3_26), (2, .int (hm_left x1)), (0, .ref h0), (1, .int x1)]) hx hb dX1_scrub_40 hl (by decide) rfl (fun ls hl => ?_)
          refine lv_iload hx hb dX1_scrub_42 (lv_at hl 0 rfl) ?_
          refine lv_if_lt (tgt := 57) hx hb dX1_scrub_44 (by decide) (fun c44 => ?_) (fun c44 => ?_)
          · refine lv_aload_n hx hb dX1_scrub_57 rfl (lv_at hl 4 rfl) ?_
            refine lv_aload_n hx hb dX1_scrub_58 rfl (lv_at hl 4 rfl) ?_
            refine va_get (D := D) (ci := 1) (v := .int h_26) (C := RX1) (T := TX1) (N := 3) hx hb hts in_X1 hown hK hP 0 rfl rfl 2 (by decide) (hts _ q154) (fun _ h9 => h9) rfl dX1_scrub_59 ?_
            refine lv_iconst (v := 1) hx hb dX1_scrub_62 (by decide) ?_
            refine lv_iadd hx hb dX1_scrub_63 ?_
            refine lv_bipush (v := 16) hx hb dX1_scrub_64 (by decide) ?_
            refine lv_irem hx hb dX1_scrub_66 (by decide) ?_
            refine va_put (D := D) (ci := 1) (v := .int ((h_26 + 1) - (h_26 + 1) / 16 * 16)) (ty := .int) (C := RX1) (T := TX1) (N := 3) hx hb hts in_X1 tyX1 tyX1_ok nmX1 hown hK hP hD hS 0 rfl rfl 2 (by decide) (hts _ q154) (fun _ h9 => h9) rfl (by decide +kernel) rfl rfl (Nat.le_of_ble_eq_true rfl) dX1_scrub_67 (fun H locs hP hD hS => ?_)
            have hP : va_P D vwCl [(h0, .inr (1, [.ref hw, .ref hc, .int (((h_26 + 1) - (h_26 + 1) / 16 * 16))])), (hw, .inl (dW, 16, .inl ((mo_rep f_26 g h_26).2))), (hc, .inl (dK, 256, .inl (g)))] H := hP
            have hD : va_D A [(h0, .inr (1, [.ref hw, .ref hc, .int (((h_26 + 1) - (h_26 + 1) / 16 * 16))])), (hw, .inl (dW, 16, .inl ((mo_rep f_26 g h_26).2))), (hc, .inl (dK, 256, .inl (g)))] := hD
            refine lv_iinc (v := (x4_26 + 1)) (lv' := [(4, .int (x4_26 + 1)), (5, .int (mo_rep f_26 g h_26).1), (3, .int x3_26), (2, .int (hm_left x1)), (0, .ref h0), (1, .int x1)]) hx hb dX1_scrub_70 hl (k := 1) rfl rfl (by decide) rfl (fun ls hl => ?_)
            refine lv_goto (tgt := 26) hx hb dX1_scrub_73 (by decide) ?_
            exact ih26 x3_26 (x4_26 + 1) ((mo_rep f_26 g h_26).2) (((h_26 + 1) - (h_26 + 1) / 16 * 16)) (Nat.le_of_succ_le hn26) (hm_nx hn26 e26) (by rw [mo_scrL, if_pos c44] at hI26; exact hI26) _ _ hP hD hS ls (lv_sub hl [0, 2, 3, 4, 5] rfl)
          · refine lv_iload hx hb dX1_scrub_47 (lv_at hl 0 rfl) ?_
            refine lv_bipush (v := 12) hx hb dX1_scrub_49 (by decide) ?_
            refine lv_icmp_gt (tgt := 57) hx hb dX1_scrub_51 (by decide) (fun c51 => ?_) (fun c51 => ?_)
            · refine lv_aload_n hx hb dX1_scrub_57 rfl (lv_at hl 4 rfl) ?_
              refine lv_aload_n hx hb dX1_scrub_58 rfl (lv_at hl 4 rfl) ?_
              refine va_get (D := D) (ci := 1) (v := .int h_26) (C := RX1) (T := TX1) (N := 3) hx hb hts in_X1 hown hK hP 0 rfl rfl 2 (by decide) (hts _ q154) (fun _ h9 => h9) rfl dX1_scrub_59 ?_
              refine lv_iconst (v := 1) hx hb dX1_scrub_62 (by decide) ?_
              refine lv_iadd hx hb dX1_scrub_63 ?_
              refine lv_bipush (v := 16) hx hb dX1_scrub_64 (by decide) ?_
              refine lv_irem hx hb dX1_scrub_66 (by decide) ?_
              refine va_put (D := D) (ci := 1) (v := .int ((h_26 + 1) - (h_26 + 1) / 16 * 16)) (ty := .int) (C := RX1) (T := TX1) (N := 3) hx hb hts in_X1 tyX1 tyX1_ok nmX1 hown hK hP hD hS 0 rfl rfl 2 (by decide) (hts _ q154) (fun _ h9 => h9) rfl (by decide +kernel) rfl rfl (Nat.le_of_ble_eq_true rfl) dX1_scrub_67 (fun H locs hP hD hS => ?_)
              have hP : va_P D vwCl [(h0, .inr (1, [.ref hw, .ref hc, .int (((h_26 + 1) - (h_26 + 1) / 16 * 16))])), (hw, .inl (dW, 16, .inl ((mo_rep f_26 g h_26).2))), (hc, .inl (dK, 256, .inl (g)))] H := hP
              have hD : va_D A [(h0, .inr (1, [.ref hw, .ref hc, .int (((h_26 + 1) - (h_26 + 1) / 16 * 16))])), (hw, .inl (dW, 16, .inl ((mo_rep f_26 g h_26).2))), (hc, .inl (dK, 256, .inl (g)))] := hD
              refine lv_iinc (v := (x4_26 + 1)) (lv' := [(4, .int (x4_26 + 1)), (5, .int (mo_rep f_26 g h_26).1), (3, .int x3_26), (2, .int (hm_left x1)), (0, .ref h0), (1, .int x1)]) hx hb dX1_scrub_70 hl (k := 1) rfl rfl (by decide) rfl (fun ls hl => ?_)
              refine lv_goto (tgt := 26) hx hb dX1_scrub_73 (by decide) ?_
              exact ih26 x3_26 (x4_26 + 1) ((mo_rep f_26 g h_26).2) (((h_26 + 1) - (h_26 + 1) / 16 * 16)) (Nat.le_of_succ_le hn26) (hm_nx hn26 e26) (by rw [mo_scrL, if_neg c44, if_pos c51] at hI26; exact hI26) _ _ hP hD hS ls (lv_sub hl [0, 2, 3, 4, 5] rfl)
            · refine lv_iinc (v := (x3_26 + 1)) (lv' := [(3, .int (x3_26 + 1)), (5, .int (mo_rep f_26 g h_26).1), (4, .int x4_26), (2, .int (hm_left x1)), (0, .ref h0), (1, .int x1)]) hx hb dX1_scrub_54 hl (k := 2) rfl rfl (by decide) rfl (fun ls hl => ?_)
              refine lv_aload_n hx hb dX1_scrub_57 rfl (lv_at hl 4 rfl) ?_
              refine lv_aload_n hx hb dX1_scrub_58 rfl (lv_at hl 4 rfl) ?_
              refine va_get (D := D) (ci := 1) (v := .int h_26) (C := RX1) (T := TX1) (N := 3) hx hb hts in_X1 hown hK hP 0 rfl rfl 2 (by decide) (hts _ q154) (fun _ h9 => h9) rfl dX1_scrub_59 ?_
              refine lv_iconst (v := 1) hx hb dX1_scrub_62 (by decide) ?_
              refine lv_iadd hx hb dX1_scrub_63 ?_
              refine lv_bipush (v := 16) hx hb dX1_scrub_64 (by decide) ?_
              refine lv_irem hx hb dX1_scrub_66 (by decide) ?_
              refine va_put (D := D) (ci := 1) (v := .int ((h_26 + 1) - (h_26 + 1) / 16 * 16)) (ty := .int) (C := RX1) (T := TX1) (N := 3) hx hb hts in_X1 tyX1 tyX1_ok nmX1 hown hK hP hD hS 0 rfl rfl 2 (by decide) (hts _ q154) (fun _ h9 => h9) rfl (by decide +kernel) rfl rfl (Nat.le_of_ble_eq_true rfl) dX1_scrub_67 (fun H locs hP hD hS => ?_)
              have hP : va_P D vwCl [(h0, .inr (1, [.ref hw, .ref hc, .int (((h_26 + 1) - (h_26 + 1) / 16 * 16))])), (hw, .inl (dW, 16, .inl ((mo_rep f_26 g h_26).2))), (hc, .inl (dK, 256, .inl (g)))] H := hP
              have hD : va_D A [(h0, .inr (1, [.ref hw, .ref hc, .int (((h_26 + 1) - (h_26 + 1) / 16 * 16))])), (hw, .inl (dW, 16, .inl ((mo_rep f_26 g h_26).2))), (hc, .inl (dK, 256, .inl (g)))] := hD
              refine lv_iinc (v := (x4_26 + 1)) (lv' := [(4, .int (x4_26 + 1)), (3, .int (x3_26 + 1)), (5, .int (mo_rep f_26 g h_26).1), (2, .int (hm_left x1)), (0, .ref h0), (1, .int x1)]) hx hb dX1_scrub_70 hl (k := 2) rfl rfl (by decide) rfl (fun ls hl => ?_)
              refine lv_goto (tgt := 26) hx hb dX1_scrub_73 (by decide) ?_
              exact ih26 (x3_26 + 1) (x4_26 + 1) ((mo_rep f_26 g h_26).2) (((h_26 + 1) - (h_26 + 1) / 16 * 16)) (Nat.le_of_succ_le hn26) (hm_nx hn26 e26) (by rw [mo_scrL, if_neg c44, if_neg c51] at hI26; exact hI26) _ _ hP hD hS ls (lv_sub hl [0, 1, 3, 4, 5] rfl)
    exact lp26 ((hm_left x1).toNatClampNeg) 0 0 (f) (h) (Nat.le_refl _) (hm_i0 _) hT26.symm _ _ hP hD hS ls hl
  refine lv_if_ge (tgt := 8) hx hb dX1_scrub_1 (by decide) (fun c1 => ?_) (fun c1 => ?_)
  · refine lv_iload_n hx hb dX1_scrub_8 rfl (lv_at hl 1 rfl) ?_
    refine lv_bipush (v := 32) hx hb dX1_scrub_9 (by decide) ?_
    refine lv_icmp_le (tgt := 19) hx hb dX1_scrub_11 (by decide) (fun c11 => ?_) (fun c11 => ?_)
    · refine lv_iload_n hx hb dX1_scrub_19 rfl (lv_at hl 1 rfl) ?_
      refine lv_istore_n (lv' := [(2, .int x1), (0, .ref h0), (1, .int x1)]) hx hb dX1_scrub_20 rfl hl (by decide) rfl (fun ls hl => ?_)
      exact j21 x1 (by rw [hm_left, if_pos c1, if_pos c11]) ls (lv_sub hl [0, 1, 2] rfl)
    · refine lv_bipush (v := 32) hx hb dX1_scrub_14 (by decide) ?_
      refine lv_goto (tgt := 20) hx hb dX1_scrub_16 (by decide) ?_
      refine lv_istore_n (lv' := [(2, .int 32), (0, .ref h0), (1, .int x1)]) hx hb dX1_scrub_20 rfl hl (by decide) rfl (fun ls hl => ?_)
      exact j21 32 (by rw [hm_left, if_pos c1, if_neg c11]) ls (lv_sub hl [0, 1, 2] rfl)
  · refine lv_iconst (v := 0) hx hb dX1_scrub_4 (by decide) ?_
    refine lv_goto (tgt := 20) hx hb dX1_scrub_5 (by decide) ?_
    refine lv_istore_n (lv' := [(2, .int 0), (0, .ref h0), (1, .int x1)]) hx hb dX1_scrub_20 rfl hl (by decide) rfl (fun ls hl => ?_)
    exact j21 0 (by rw [hm_left, if_neg c1]) ls (lv_sub hl [0, 1, 2] rfl)
set_option maxHeartbeats 4000000 in
set_option maxRecDepth 100000 in
theorem mt_X1_mix (l : Launch) (D : va_G) (h0 hw hc : Nat) (dW dK : ClassId) (f g : Nat → Int32) (h : Int32) (sz : Nat) (x1 : Int32) (x2 : Int32) : Met l yX1_mix (ws_ yX1_mix cX1_mix 5 (some .int)) ({ frames := 3, cells := 0, slots := 0, locals := 68 }) (va_Pc [.ref h0, .int x1, .int x2] (fun U => U.heap.size = sz ∧ va_P D vwCl [(h0, .inr (1, [.ref hw, .ref hc, .int (h)])), (hw, .inl (dW, 16, .inl (f))), (hc, .inl (dK, 256, .inl (g)))] U.heap ∧ va_K D vwCl [(dW, .int), (dK, .int)] U ∧ va_D (fun _ => True) [(h0, .inr (1, [.ref hw, .ref hc, .int (h)])), (hw, .inl (dW, 16, .inl (f))), (hc, .inl (dK, 256, .inl (g)))])) (va_Qi (fun (r : Int32) (u : Nat → Int32) => (r, u) = mo_mix f g x1 x2) (fun u t => va_P D vwCl [(h0, .inr (1, [.ref hw, .ref hc, .int (h)])), (hw, .inl (dW, 16, .inl (u))), (hc, .inl (dK, 256, .inl (g)))] t.heap ∧ va_D (va_A [(h0, .inr (1, [.ref hw, .ref hc, .int (h)])), (hw, .inl (dW, 16, .inl (f))), (hc, .inl (dK, 256, .inl (g)))] sz) [(h0, .inr (1, [.ref hw, .ref hc, .int (h)])), (hw, .inl (dW, 16, .inl (u))), (hc, .inl (dK, 256, .inl (g)))]) (va_A [(h0, .inr (1, [.ref hw, .ref hc, .int (h)])), (hw, .inl (dW, 16, .inl (f))), (hc, .inl (dK, 256, .inl (g)))] sz)) 0 0 (va_A [(h0, .inr (1, [.ref hw, .ref hc, .int (h)])), (hw, .inl (dW, 16, .inl (f))), (hc, .inl (dK, 256, .inl (g)))] sz) := by
  refine Met.ofW (cc := cX1_mix) (maxL := 5) (ret := (some .int)) (by decide) rfl ?_
  intro p e s m args below meth c s₁ B hml hv
  obtain ⟨rfl, hsz, hP, hK, hD0⟩ := hv
  have hx := B.exec
  have hb := B.bytes
  have hr := B.returns
  have hts := atoms_spec (ws := (ws_ yX1_mix cX1_mix 5 (some .int))) B.pre
  have hts : ∀ w ∈ lw_all, w.before _ s = true := fun w h => hts w (List.mem_cons_of_mem _ h)
  have hown : s.vm.findClass RX1 = some m.cls := findClass_of_methodNamed B.named
  have hlocks := B.notSynchronized
  have S : CallFix p m c cX1_mix 5 s _ lw_all RX1 := ⟨hx, hb, hml, hown, hts⟩
  subst hsz
  have hD := hD0.self (sz := s.heap.size)
  generalize hAe : va_A [(h0, .inr (1, [.ref hw, .ref hc, .int (h)])), (hw, .inl (dW, 16, .inl (f))), (hc, .inl (dK, 256, .inl (g)))] s.heap.size = A at hD ⊢
  have hA : ∀ q : Nat, s.heap.size ≤ q → A q := fun q h => by rw [← hAe]; exact Or.inr h
  have hS : va_S A s.heap s.heap [] := va_S.rf
  have hP : va_P D vwCl [(h0, .inr (1, [.ref hw, .ref hc, .int (h)])), (hw, .inl (dW, 16, .inl (f))), (hc, .inl (dK, 256, .inl (g)))] s.heap := hP
  have hl := lv_entry ([.ref h0, .int x1, .int x2]) (n := 5) (Nat.le_of_ble_eq_true rfl)
  rw [lg_entry_eq]
  generalize (lg_sl ([.ref h0, .int x1, .int x2]) ++ List.replicate (5 - (lg_sl ([.ref h0, .int x1, .int x2])).length) Slot.unset).toArray = ls at hl ⊢
  have hl : lv_has ls 5 [(0, .ref h0), (1, .int x1), (2, .int x2)] := hl
  refine lv_aload_n hx hb dX1_mix_0 rfl (lv_at hl 0 rfl) ?_
  refine lv_iload_n hx hb dX1_mix_1 rfl (lv_at hl 1 rfl) ?_
  refine ca_X1_isWord S ⟨Nat.le_of_ble_eq_true rfl, Nat.le_of_ble_eq_true rfl⟩ (va_recv hK hP (ci := 1) (q0 := 0) rfl rfl) hl.1 (Nat.le_of_ble_eq_true rfl) dX1_mix_2 ⟨Nat.zero_le _, Nat.zero_le _⟩ ?_
  refine lv_if_eq (tgt := 16) hx hb dX1_mix_5 (by decide) (fun c5 => ?_) (fun c5 => ?_)
  · refine lv_iconst (v := -1) hx hb dX1_mix_16 (by decide) ?_
    exact W.iret (v := (-1)) hx hb hr (fun t ht hW => ⟨⟨(-1), f, rfl, by show ((-1), f) = mo_mix f g x1 x2; rw [mo_mix, if_pos c5], by rw [ht]; exact hP, hD⟩, hS.F ht⟩) hS.2.2 dX1_mix_17 hlocks
  · refine lv_aload_n hx hb dX1_mix_8 rfl (lv_at hl 0 rfl) ?_
    refine lv_iload_n hx hb dX1_mix_9 rfl (lv_at hl 2 rfl) ?_
    refine ca_X1_isWord S ⟨Nat.le_of_ble_eq_true rfl, Nat.le_of_ble_eq_true rfl⟩ (va_recv hK hP (ci := 1) (q0 := 0) rfl rfl) hl.1 (Nat.le_of_ble_eq_true rfl) dX1_mix_10 ⟨Nat.zero_le _, Nat.zero_le _⟩ ?_
    refine lv_if_ne (tgt := 18) hx hb dX1_mix_13 (by decide) (fun c13 => ?_) (fun c13 => ?_)
    · refine lv_aload_n hx hb dX1_mix_18 rfl (lv_at hl 0 rfl) ?_
      refine lv_iload_n hx hb dX1_mix_19 rfl (lv_at hl 1 rfl) ?_
      refine ca_X1_read S ⟨Nat.le_of_ble_eq_true rfl, Nat.le_of_ble_eq_true rfl⟩ hK hP hl.1 (Nat.le_of_ble_eq_true rfl) dX1_mix_20 ⟨Nat.zero_le _, Nat.zero_le _⟩ ?_
      refine lv_istore_n (lv' := [(3, .int (mo_read f g x1)), (0, .ref h0), (1, .int x1), (2, .int x2)]) hx hb dX1_mix_23 rfl hl (by decide) rfl (fun ls hl => ?_)
      refine lv_aload_n hx hb dX1_mix_24 rfl (lv_at hl 1 rfl) ?_
      refine lv_iload_n hx hb dX1_mix_25 rfl (lv_at hl 3 rfl) ?_
      refine ca_X1_read S ⟨Nat.le_of_ble_eq_true rfl, Nat.le_of_ble_eq_true rfl⟩ hK hP hl.1 (Nat.le_of_ble_eq_true rfl) dX1_mix_26 ⟨Nat.zero_le _, Nat.zero_le _⟩ ?_
      refine lv_istore (lv' := [(4, .int (mo_read f g x2)), (3, .int (mo_read f g x1)), (0, .ref h0), (1, .int x1), (2, .int x2)]) hx hb dX1_mix_29 hl (by decide) rfl (fun ls hl => ?_)
      refine lv_iload_n hx hb dX1_mix_31 rfl (lv_at hl 1 rfl) ?_
      refine lv_if_lt (tgt := 40) hx hb dX1_mix_32 (by decide) (fun c32 => ?_) (fun c32 => ?_)
      · refine lv_bipush (v := -2) hx hb dX1_mix_40 (by decide) ?_
        exact W.iret (v := (-2)) hx hb hr (fun t ht hW => ⟨⟨(-2), f, rfl, by show ((-2), f) = mo_mix f g x1 x2; rw [mo_mix, if_neg c5, if_neg c13, if_pos c32], by rw [ht]; exact hP, hD⟩, hS.F ht⟩) hS.2.2 dX1_mix_42 hlocks
      · refine lv_iload hx hb dX1_mix_35 (lv_at hl 0 rfl) ?_
        refine lv_if_ge (tgt := 43) hx hb dX1_mix_37 (by decide) (fun c37 => ?_) (fun c37 => ?_)
        · refine lv_aload_n hx hb dX1_mix_43 rfl (lv_at hl 2 rfl) ?_
          refine va_get (D := D) (ci := 1) (v := .ref hw) (C := RX1) (T := TX1) (N := 3) hx hb hts in_X1 hown hK hP 0 rfl rfl 0 (by decide) (hts _ q152) (fun _ h9 => h9) rfl dX1_mix_44 ?_
          refine lv_iload_n hx hb dX1_mix_47 rfl (lv_at hl 4 rfl) ?_
          refine lv_aload_n hx hb dX1_mix_48 rfl (lv_at hl 2 rfl) ?_
          refine va_get (D := D) (ci := 1) (v := .ref hc) (C := RX1) (T := TX1) (N := 3) hx hb hts in_X1 hown hK hP 0 rfl rfl 1 (by decide) (hts _ q153) (fun _ h9 => h9) rfl dX1_mix_49 ?_
          refine lv_iload_n hx hb dX1_mix_52 rfl (lv_at hl 1 rfl) ?_
          refine lv_iload hx hb dX1_mix_53 (lv_at hl 0 rfl) ?_
          refine lv_ixor hx hb dX1_mix_55 ?_
          refine lv_sipush (v := 255) hx hb dX1_mix_56 (by decide) ?_
          refine lv_iand hx hb dX1_mix_59 ?_
          refine va_iald hx hb hK hP 2 1 rfl rfl (pk_andIn _ 8 (by decide) (by decide)) dX1_mix_60 ?_
          refine va_iast hx hb hK hP hD hS 1 0 rfl rfl (hm_isWord_in c13) dX1_mix_61 (fun H locs hP hD hS => ?_)
          have hP : va_P D vwCl [(h0, .inr (1, [.ref hw, .ref hc, .int (h)])), (hw, .inl (dW, 16, .inl (upd f x2.toNatClampNeg (g (((mo_read f g x1) ^^^ (mo_read f g x2)) &&& 255).toNatClampNeg)))), (hc, .inl (dK, 256, .inl (g)))] H := hP
          have hD : va_D A [(h0, .inr (1, [.ref hw, .ref hc, .int (h)])), (hw, .inl (dW, 16, .inl (upd f x2.toNatClampNeg (g (((mo_read f g x1) ^^^ (mo_read f g x2)) &&& 255).toNatClampNeg)))), (hc, .inl (dK, 256, .inl (g)))] := hD
          refine lv_iload_n hx hb dX1_mix_62 rfl (lv_at hl 1 rfl) ?_
          refine lv_iload hx hb dX1_mix_63 (lv_at hl 0 rfl) ?_
          refine lv_ixor hx hb dX1_mix_65 ?_
          exact W.iret (v := ((mo_read f g x1) ^^^ (mo_read f g x2))) hx hb hr (fun t ht hW => ⟨⟨((mo_read f g x1) ^^^ (mo_read f g x2)), upd f x2.toNatClampNeg (g (((mo_read f g x1) ^^^ (mo_read f g x2)) &&& 255).toNatClampNeg), rfl, by show (((mo_read f g x1) ^^^ (mo_read f g x2)), upd f x2.toNatClampNeg (g (((mo_read f g x1) ^^^ (mo_read f g x2)) &&& 255).toNatClampNeg)) = mo_mix f g x1 x2; rw [mo_mix, if_neg c5, if_neg c13, if_neg c32, if_pos c37], by rw [ht]; exact hP, hD⟩, hS.F ht⟩) hS.2.2 dX1_mix_66 hlocks
        · refine lv_bipush (v := -2) hx hb dX1_mix_40 (by decide) ?_
          exact W.iret (v := (-2)) hx hb hr (fun t ht hW => ⟨⟨(-2), f, rfl, by show ((-2), f) = mo_mix f g x1 x2; rw [mo_mix, if_neg c5, if_neg c13, if_neg c32, if_neg c37], by rw [ht]; exact hP, hD⟩, hS.F ht⟩) hS.2.2 dX1_mix_42 hlocks
    · refine lv_iconst (v := -1) hx hb dX1_mix_16 (by decide) ?_
      exact W.iret (v := (-1)) hx hb hr (fun t ht hW => ⟨⟨(-1), f, rfl, by show ((-1), f) = mo_mix f g x1 x2; rw [mo_mix, if_neg c5, if_pos c13], by rw [ht]; exact hP, hD⟩, hS.F ht⟩) hS.2.2 dX1_mix_17 hlocks
end
section
/-! the constructors -/
def mo_tabL : Nat → (Nat → Int32) → Int32 → (Nat → Int32)
  | 0, g, _ => g
  | n + 1, g, b => mo_tabL n (upd g b.toNatClampNeg (mo_code b)) (b + 1)
def mo_wrdL (g : Nat → Int32) : Nat → (Nat → Int32) → Int32 → (Nat → Int32)
  | 0, f, _ => f
  | n + 1, f, b => mo_wrdL g n (upd f b.toNatClampNeg (g (0 : Int32).toNatClampNeg)) (b + 1)
set_option maxHeartbeats 4000000 in
set_option maxRecDepth 100000 in
theorem mt_X0_init (l : Launch) (D : va_G) (h0 : Nat) (sz : Nat) : Met l yX0_init (ws_ yX0_init cX0_init 1 none) ({ frames := 1, cells := 1, slots := 16, locals := 12 }) (va_Pc [.ref h0] (fun U => U.heap.size = sz ∧ va_P D vwCl [(h0, .inr (0, [.null, .int 0]))] U.heap ∧ va_K D vwCl [] U ∧ va_D (fun _ => True) [(h0, .inr (0, [.null, .int 0]))])) (va_Qv (fun (_ : Nat × ClassId) => True) (fun u t => va_P D vwCl [(h0, .inr (0, [.ref u.1, .int 0])), (u.1, .inl (u.2, 16, .inl (fun _ => 0)))] t.heap ∧ va_K D vwCl [(u.2, .short)] t ∧ va_D (va_A [(h0, .inr (0, [.null, .int 0]))] sz) [(h0, .inr (0, [.ref u.1, .int 0])), (u.1, .inl (u.2, 16, .inl (fun _ => 0)))]) (va_A [(h0, .inr (0, [.null, .int 0]))] sz)) 1 16 (va_A [(h0, .inr (0, [.null, .int 0]))] sz) := by
  refine Met.ofW (cc := cX0_init) (maxL := 1) (ret := none) (by decide) rfl ?_
  intro p e s m args below meth c s₁ B hml hv
  obtain ⟨rfl, hsz, hP, hK, hD0⟩ := hv
  have hx := B.exec
  have hb := B.bytes
  have hr := B.returns
  have hts := atoms_spec (ws := (ws_ yX0_init cX0_init 1 none)) B.pre
  have hts : ∀ w ∈ lw_all, w.before _ s = true := fun w h => hts w (List.mem_cons_of_mem _ h)
  have hown : s.vm.findClass RX0 = some m.cls := findClass_of_methodNamed B.named
  have hlocks := B.notSynchronized
  have hin : meth.name = "<init>" := (name_of_methodNamed B.named B.method).1
  subst hsz
  have hD := hD0.self (sz := s.heap.size)
  generalize hAe : va_A [(h0, .inr (0, [.null, .int 0]))] s.heap.size = A at hD ⊢
  have hA : ∀ q : Nat, s.heap.size ≤ q → A q := fun q h => by rw [← hAe]; exact Or.inr h
  have hS : va_S A s.heap s.heap [] := va_S.rf
  have hP : va_P D vwCl [(h0, .inr (0, [.null, .int 0]))] s.heap := hP
  have hl := lv_entry ([.ref h0]) (n := 1) (Nat.le_of_ble_eq_true rfl)
  rw [lg_entry_eq]
  generalize (lg_sl ([.ref h0]) ++ List.replicate (1 - (lg_sl ([.ref h0])).length) Slot.unset).toArray = ls at hl ⊢
  have hl : lv_has ls 1 [(0, .ref h0)] := hl
  refine lv_aload_n hx hb dX0_init_0 rfl (lv_at hl 0 rfl) ?_
  refine W.objInit hx hb hown (hts _ q25) (hts _ q26) (hts _ q27) rfl (by rw [hml]; exact hl.1) rfl dX0_init_1 (Nat.le_of_ble_eq_true rfl) (Nat.le_of_ble_eq_true rfl) ?_
  refine W.eq (g2 := F0 m 4 ls []) rfl ?_
  refine lv_aload_n hx hb dX0_init_4 rfl (lv_at hl 0 rfl) ?_
  refine lv_bipush (v := 16) hx hb dX0_init_5 (by decide) ?_
  refine va_newa (atype := .short) (N' := 16) (a0 := (16, .inl (fun _ => 0))) hx hb (hts _ q35) rfl hK hP hD hS hA (fun _ => rfl) (by decide) (by decide) (by decide) (Nat.le_of_ble_eq_true rfl) (Nat.le_of_ble_eq_true rfl) dX0_init_7 (fun hw dS H hK hP hD hS => ?_)
  refine W.widen (k := 1) (n := 16) (by omega) (by omega) ?_
  have hP : va_P D vwCl [(h0, .inr (0, [.null, .int 0])), (hw, .inl (dS, 16, .inl (fun _ => 0)))] H := hP
  have hD : va_D A [(h0, .inr (0, [.null, .int 0])), (hw, .inl (dS, 16, .inl (fun _ => 0)))] := hD
  have hK : va_K D vwCl [(dS, .short)] s := hK
  refine va_putF (D := D) (ci := 0) (v := .ref hw) (ty := .array .short) (C := RX0) (T := TX0) (N := 2) hx hb hts in_X0 tyX0 tyX0_ok nmX0 hown hK hP hD hS 0 rfl rfl 0 (by decide) (hts _ q28) (fun _ h9 => h9) rfl hin rfl (by decide +kernel) rfl rfl (Nat.le_of_ble_eq_true rfl) dX0_init_9 (fun H locs hP hD hS => ?_)
  have hP : va_P D vwCl [(h0, .inr (0, [.ref hw, .int 0])), (hw, .inl (dS, 16, .inl (fun _ => 0)))] H := hP
  have hD : va_D A [(h0, .inr (0, [.ref hw, .int 0])), (hw, .inl (dS, 16, .inl (fun _ => 0)))] := hD
  exact W.vret hx hb hr (fun t ht hW => ⟨⟨(hw, dS), rfl, trivial, by rw [ht]; exact hP, va_K.moved hW.alike hK, hD⟩, hS.F ht⟩) hS.2.2 dX0_init_12 hlocks
abbrev mo_WI (h0 : Nat) (u : Nat × Nat × ClassId × ClassId) : va_W := [(h0, .inr (1, [.ref u.1, .ref u.2.1, .int 0])), (u.1, .inl (u.2.2.1, 16, .inl (mo_wrdL (mo_tabL 256 (fun _ => 0) 0) 16 (fun _ => 0) 0))), (u.2.1, .inl (u.2.2.2, 256, .inl (mo_tabL 256 (fun _ => 0) 0)))]
set_option maxHeartbeats 4000000 in
set_option maxRecDepth 100000 in
theorem mt_X1_init (l : Launch) (D : va_G) (h0 : Nat) (sz : Nat) : Met l yX1_init (ws_ yX1_init cX1_init 2 none) ({ frames := 3, cells := 2, slots := 272, locals := 70 }) (va_Pc [.ref h0] (fun U => U.heap.size = sz ∧ va_P D vwCl [(h0, .inr (1, [.null, .null, .int 0]))] U.heap ∧ va_K D vwCl [] U ∧ va_D (fun _ => True) [(h0, .inr (1, [.null, .null, .int 0]))])) (va_Qv (fun (_ : Nat × Nat × ClassId × ClassId) => True) (fun u t => va_P D vwCl (mo_WI h0 u) t.heap ∧ va_K D vwCl [(u.2.2.1, .int), (u.2.2.2, .int)] t ∧ va_D (va_A [(h0, .inr (1, [.null, .null, .int 0]))] sz) (mo_WI h0 u)) (va_A [(h0, .inr (1, [.null, .null, .int 0]))] sz)) 2 272 (va_A [(h0, .inr (1, [.null, .null, .int 0]))] sz) := by
  refine Met.ofW (cc := cX1_init) (maxL := 2) (ret := none) (by decide) rfl ?_
  intro p e s m args below meth c s₁ B hml hv
  obtain ⟨rfl, hsz, hP, hK, hD0⟩ := hv
  have hx := B.exec
  have hb := B.bytes
  have hr := B.returns
  have hts := atoms_spec (ws := (ws_ yX1_init cX1_init 2 none)) B.pre
  have hts : ∀ w ∈ lw_all, w.before _ s = true := fun w h => hts w (List.mem_cons_of_mem _ h)
  have hown : s.vm.findClass RX1 = some m.cls := findClass_of_methodNamed B.named
  have hlocks := B.notSynchronized
  have S : CallFix p m c cX1_init 2 s _ lw_all RX1 := ⟨hx, hb, hml, hown, hts⟩
  have hin : meth.name = "<init>" := (name_of_methodNamed B.named B.method).1
  subst hsz
  have hD := hD0.self (sz := s.heap.size)
  generalize hAe : va_A [(h0, .inr (1, [.null, .null, .int 0]))] s.heap.size = A at hD ⊢
  have hA : ∀ q : Nat, s.heap.size ≤ q → A q := fun q h => by rw [← hAe]; exact Or.inr h
  have hS : va_S A s.heap s.heap [] := va_S.rf
  have hP : va_P D vwCl [(h0, .inr (1, [.null, .null, .int 0]))] s.heap := hP
  have hl := lv_entry ([.ref h0]) (n := 2) (Nat.le_of_ble_eq_true rfl)
  rw [lg_entry_eq]
  generalize (lg_sl ([.ref h0]) ++ List.replicate (2 - (lg_sl ([.ref h0])).length) Slot.unset).toArray = ls at hl ⊢
  have hl : lv_has ls 2 [(0, .ref h0)] := hl
  refine lv_aload_n hx hb dX1_init_0 rfl (lv_at hl 0 rfl) ?_
  refine W.objInit hx hb hown (hts _ q135) (hts _ q26) (hts _ q27) rfl (by rw [hml]; exact hl.1) rfl dX1_init_1 (Nat.le_of_ble_eq_true rfl) (Nat.le_of_ble_eq_true rfl) ?_
  refine W.eq (g2 := F0 m 4 ls []) rfl ?_
  refine lv_aload_n hx hb dX1_init_4 rfl (lv_at hl 0 rfl) ?_
  refine lv_bipush (v := 16) hx hb dX1_init_5 (by decide) ?_
  refine va_newa (atype := .int) (N' := 16) (a0 := (16, .inl (fun _ => 0))) hx hb (hts _ q162) rfl hK hP hD hS hA (fun _ => rfl) (by decide) (by decide) (by decide) (Nat.le_of_ble_eq_true rfl) (Nat.le_of_ble_eq_true rfl) dX1_init_7 (fun hw dW H hK hP hD hS => ?_)
  refine W.widen (k := 1) (n := 16) (by omega) (by omega) ?_
  have hP : va_P D vwCl [(h0, .inr (1, [.null, .null, .int 0])), (hw, .inl (dW, 16, .inl (fun _ => 0)))] H := hP
  have hD : va_D A [(h0, .inr (1, [.null, .null, .int 0])), (hw, .inl (dW, 16, .inl (fun _ => 0)))] := hD
  have hK : va_K D vwCl [(dW, .int)] s := hK
  refine va_put (D := D) (ci := 1) (v := .ref hw) (ty := .array .int) (C := RX1) (T := TX1) (N := 3) hx hb hts in_X1 tyX1 tyX1_ok nmX1 hown hK hP hD hS 0 rfl rfl 0 (by decide) (hts _ q152) (fun _ h9 => h9) rfl (by decide +kernel) rfl rfl (Nat.le_of_ble_eq_true rfl) dX1_init_9 (fun H locs hP hD hS => ?_)
  have hP : va_P D vwCl [(h0, .inr (1, [.ref hw, .null, .int 0])), (hw, .inl (dW, 16, .inl (fun _ => 0)))] H := hP
  have hD : va_D A [(h0, .inr (1, [.ref hw, .null, .int 0])), (hw, .inl (dW, 16, .inl (fun _ => 0)))] := hD
  refine lv_aload_n hx hb dX1_init_12 rfl (lv_at hl 0 rfl) ?_
  refine lv_sipush (v := 256) hx hb dX1_init_13 (by decide) ?_
  refine va_newa (atype := .int) (N' := 256) (a0 := (256, .inl (fun _ => 0))) hx hb (hts _ q162) rfl hK hP hD hS hA (fun _ => rfl) (by decide) (by decide) (by decide) (Nat.le_of_ble_eq_true rfl) (Nat.le_of_ble_eq_true rfl) dX1_init_16 (fun hc dK H hK hP hD hS => ?_)
  refine W.widen (k := 2) (n := 272) (by omega) (by omega) ?_
  have hP : va_P D vwCl [(h0, .inr (1, [.ref hw, .null, .int 0])), (hw, .inl (dW, 16, .inl (fun _ => 0))), (hc, .inl (dK, 256, .inl (fun _ => 0)))] H := hP
  have hD : va_D A [(h0, .inr (1, [.ref hw, .null, .int 0])), (hw, .inl (dW, 16, .inl (fun _ => 0))), (hc, .inl (dK, 256, .inl (fun _ => 0)))] := hD
  have hK : va_K D vwCl [(dW, .int), (dK, .int)] s := hK
  refine va_put (D := D) (ci := 1) (v := .ref hc) (ty := .array .int) (C := RX1) (T := TX1) (N := 3) hx hb hts in_X1 tyX1 tyX1_ok nmX1 hown hK hP hD hS 0 rfl rfl 1 (by decide) (hts _ q153) (fun _ h9 => h9) rfl (by decide +kernel) rfl rfl (Nat.le_of_ble_eq_true rfl) dX1_init_18 (fun H locs hP hD hS => ?_)
  have hP : va_P D vwCl [(h0, .inr (1, [.ref hw, .ref hc, .int 0])), (hw, .inl (dW, 16, .inl (fun _ => 0))), (hc, .inl (dK, 256, .inl (fun _ => 0)))] H := hP
  have hD : va_D A [(h0, .inr (1, [.ref hw, .ref hc, .int 0])), (hw, .inl (dW, 16, .inl (fun _ => 0))), (hc, .inl (dK, 256, .inl (fun _ => 0)))] := hD
  refine lv_aload_n hx hb dX1_init_21 rfl (lv_at hl 0 rfl) ?_
  refine lv_iconst (v := 0) hx hb dX1_init_22 (by decide) ?_
  refine va_put (D := D) (ci := 1) (v := .int 0) (ty := .int) (C := RX1) (T := TX1) (N := 3) hx hb hts in_X1 tyX1 tyX1_ok nmX1 hown hK hP hD hS 0 rfl rfl 2 (by decide) (hts _ q154) (fun _ h9 => h9) rfl (by decide +kernel) rfl rfl (Nat.le_of_ble_eq_true rfl) dX1_init_23 (fun H locs hP hD hS => ?_)
  have hP : va_P D vwCl [(h0, .inr (1, [.ref hw, .ref hc, .int 0])), (hw, .inl (dW, 16, .inl (fun _ => 0))), (hc, .inl (dK, 256, .inl (fun _ => 0)))] H := hP
  have hD : va_D A [(h0, .inr (1, [.ref hw, .ref hc, .int 0])), (hw, .inl (dW, 16, .inl (fun _ => 0))), (hc, .inl (dK, 256, .inl (fun _ => 0)))] := hD
  refine lv_iconst (v := 0) hx hb dX1_init_26 (by decide) ?_
  refine lv_istore_n (lv' := [(1, .int 0), (0, .ref h0)]) hx hb dX1_init_27 rfl hl (by decide) rfl (fun ls hl => ?_)
  obtain ⟨T28, hT28⟩ : ∃ T, T = mo_tabL 256 (fun _ => 0) 0 := ⟨_, rfl⟩
  have lp28 : ∀ (n28 : Nat) (x1_28 : Int32) (g_28 : Nat → Int32), n28 ≤ 256 → x1_28 = nI (256 - n28) → mo_tabL n28 g_28 x1_28 = T28 → ∀ (H : Heap) (locs : List Loc), va_P D vwCl [(h0, .inr (1, [.ref hw, .ref hc, .int (0)])), (hw, .inl (dW, 16, .inl (fun _ => 0))), (hc, .inl (dK, 256, .inl (g_28)))] H → va_D A [(h0, .inr (1, [.ref hw, .ref hc, .int (0)])), (hw, .inl (dW, 16, .inl (fun _ => 0))), (hc, .inl (dK, 256, .inl (g_28)))] → va_S A s.heap H locs → ∀ ls : Array Slot, lv_has ls 2 [(1, .int x1_28), (0, .ref h0)] → W p l e (headSpec (ws_ yX1_init cX1_init 2 none) ({ frames := 3, cells := 2, slots := 272, locals := 70 })).room s m ([.ref h0] : List Value).toArray below meth c H locs 2 272 (MQ below (va_Qv (fun (_ : Nat × Nat × ClassId × ClassId) => True) (fun u t => va_P D vwCl [(h0, .inr (1, [.ref u.1, .ref u.2.1, .int 0])), (u.1, .inl (u.2.2.1, 16, .inl (mo_wrdL (mo_tabL 256 (fun _ => 0) 0) 16 (fun _ => 0) 0))), (u.2.1, .inl (u.2.2.2, 256, .inl (mo_tabL 256 (fun _ => 0) 0)))] t.heap ∧ va_K D vwCl [(u.2.2.1, .int), (u.2.2.2, .int)] t ∧ va_D A [(h0, .inr (1, [.ref u.1, .ref u.2.1, .int 0])), (u.1, .inl (u.2.2.1, 16, .inl (mo_wrdL (mo_tabL 256 (fun _ => 0) 0) 16 (fun _ => 0) 0))), (u.2.1, .inl (u.2.2.2, 256, .inl (mo_tabL 256 (fun _ => 0) 0)))]) A) ([.ref h0] : List Value).toArray s 2 272 A) (F0 m 28 ls []) := by
    intro n28
    induction n28 with
    | zero =>
      intro x1_28 g_28 hn28 e28 hI28 H locs hP hD hS ls hl
      refine lv_iload_n hx hb dX1_init_28 rfl (lv_at hl 0 rfl) ?_
      refine lv_sipush (v := 256) hx hb dX1_init_29 (by decide) ?_
      refine lv_icmp_ge (tgt := 52) hx hb dX1_init_32 (by decide) (fun c32 => ?_) (fun c32 => ?_)
      · obtain rfl : g_28 = mo_tabL 256 (fun _ => 0) 0 := (show g_28 = T28 from hI28).trans hT28
        refine lv_iconst (v := 0) hx hb dX1_init_52 (by decide) ?_
        refine lv_istore_n (lv' := [(1, .int 0), (0, .ref h0)]) hx hb dX1_init_53 rfl hl (by decide) rfl (fun ls hl => ?_)
        obtain ⟨T54, hT54⟩ : ∃ T, T = mo_wrdL (mo_tabL 256 (fun _ => 0) 0) 16 (fun _ => 0) 0 := ⟨_, rfl⟩
        have lp54 : ∀ (n54 : Nat) (x1_54 : Int32) (f_54 : Nat → Int32), n54 ≤ 16 → x1_54 = nI (16 - n54) → mo_wrdL (mo_tabL 256 (fun _ => 0) 0) n54 f_54 x1_54 = T54 → ∀ (H : Heap) (locs : List Loc), va_P D vwCl [(h0, .inr (1, [.ref hw, .ref hc, .int (0)])), (hw, .inl (dW, 16, .inl (f_54))), (hc, .inl (dK, 256, .inl (mo_tabL 256 (fun _ => 0) 0)))] H → va_D A [(h0, .inr (1, [.ref hw, .ref hc, .int (0)])), (hw, .inl (dW, 16, .inl (f_54))), (hc, .inl (dK, 256, .inl (mo_tabL 256 (fun _ => 0) 0)))] → va_S A s.heap H locs → ∀ ls : Array Slot, lv_has ls 2 [(1, .int x1_54), (0, .ref h0)] → W p l e (headSpec (ws_ yX1_init cX1_init 2 none) ({ frames := 3, cells := 2, slots := 272, locals := 70 })).room s m ([.ref h0] : List Value).toArray below meth c H locs 2 272 (MQ below (va_Qv (fun (_ : Nat × Nat × ClassId × ClassId) => True) (fun u t => va_P D vwCl [(h0, .inr (1, [.ref u.1, .ref u.2.1, .int 0])), (u.1, .inl (u.2.2.1, 16, .inl (mo_wrdL (mo_tabL 256 (fun _ => 0) 0) 16 (fun _ => 0) 0))), (u.2.1, .inl (u.2.2.2, 256, .inl (mo_tabL 256 (fun _ => 0) 0)))] t.heap ∧ va_K D vwCl [(u.2.2.1, .int), (u.2.2.2, .int)] t ∧ va_D A [(h0, .inr (1, [.ref u.1, .ref u.2.1, .int 0])), (u.1, .inl (u.2.2.1, 16, .inl (mo_wrdL (mo_tabL 256 (fun _ => 0) 0) 16 (fun _ => 0) 0))), (u.2.1, .inl (u.2.2.2, 256, .inl (mo_tabL 256 (fun _ => 0) 0)))]) A) ([.ref h0] : List Value).toArray s 2 272 A) (F0 m 54 ls []) := by
          intro n54
          induction n54 with
          | zero =>
            intro x1_54 f_54 hn54 e54 hI54 H locs hP hD hS ls hl
            refine lv_iload_n hx hb dX1_init_54 rfl (lv_at hl 0 rfl) ?_
            refine lv_bipush (v := 16) hx hb dX1_init_55 (by decide) ?_
            refine lv_icmp_ge (tgt := 78) hx hb dX1_init_57 (by decide) (fun c57 => ?_) (fun c57 => ?_)
            · obtain rfl : f_54 = mo_wrdL (mo_tabL 256 (fun _ => 0) 0) 16 (fun _ => 0) 0 := (show f_54 = T54 from hI54).trans hT54
              exact W.vret hx hb hr (fun t ht hW => ⟨⟨(hw, hc, dW, dK), rfl, trivial, by rw [ht]; exact hP, va_K.moved hW.alike hK, hD⟩, hS.F ht⟩) hS.2.2 dX1_init_78 hlocks
            · exact absurd (hm_ge0 (N := 16) rfl e54) c57
          | succ n54 ih54 =>
            intro x1_54 f_54 hn54 e54 hI54 H locs hP hD hS ls hl
            refine lv_iload_n hx hb dX1_init_54 rfl (lv_at hl 0 rfl) ?_
            refine lv_bipush (v := 16) hx hb dX1_init_55 (by decide) ?_
            refine lv_icmp_ge (tgt := 78) hx hb dX1_init_57 (by decide) (fun c57 => ?_) (fun c57 => ?_)
            · exact absurd c57 (hm_geS (N := 16) rfl (by decide) hn54 e54)
            · refine lv_aload_n hx hb dX1_init_60 rfl (lv_at hl 1 rfl) ?_
              refine va_get (D := D) (ci := 1) (v := .ref hw) (C := RX1) (T := TX1) (N := 3) hx hb hts in_X1 hown hK hP 0 rfl rfl 0 (by decide) (hts _ q152) (fun _ h9 => h9) rfl dX1_init_61 ?_
              refine lv_iload_n hx hb dX1_init_64 rfl (lv_at hl 0 rfl) ?_
              refine lv_aload_n hx hb dX1_init_65 rfl (lv_at hl 1 rfl) ?_
              refine va_get (D := D) (ci := 1) (v := .ref hc) (C := RX1) (T := TX1) (N := 3) hx hb hts in_X1 hown hK hP 0 rfl rfl 1 (by decide) (hts _ q153) (fun _ h9 => h9) rfl dX1_init_66 ?_
              refine lv_iconst (v := 0) hx hb dX1_init_69 (by decide) ?_
              refine va_iald hx hb hK hP 2 1 rfl rfl (vp_in_nI (n := 0) (N := 256) (by decide) (by decide)) dX1_init_70 ?_
              refine va_iast hx hb hK hP hD hS 1 0 rfl rfl (hm_in (N := 16) (by decide) hn54 e54) dX1_init_71 (fun H locs hP hD hS => ?_)
              have hP : va_P D vwCl [(h0, .inr (1, [.ref hw, .ref hc, .int (0)])), (hw, .inl (dW, 16, .inl (upd f_54 x1_54.toNatClampNeg ((mo_tabL 256 (fun _ => 0) 0) (0 : Int32).toNatClampNeg)))), (hc, .inl (dK, 256, .inl (mo_tabL 256 (fun _ => 0) 0)))] H := hP
              have hD : va_D A [(h0, .inr (1, [.ref hw, .ref hc, .int (0)])), (hw, .inl (dW, 16, .inl (upd f_54 x1_54.toNatClampNeg ((mo_tabL 256 (fun _ => 0) 0) (0 : Int32).toNatClampNeg)))), (hc, .inl (dK, 256, .inl (mo_tabL 256 (fun _ => 0) 0)))] := hD
              refine lv_iinc (v := (x1_54 + 1)) (lv' := [(1, .int (x1_54 + 1)), (0, .ref h0)]) hx hb dX1_init_72 hl (k := 0) rfl rfl (by decide) rfl (fun ls hl => ?_)
              refine lv_goto (tgt := 54) hx hb dX1_init_75 (by decide) ?_
              exact ih54 (x1_54 + 1) (upd f_54 x1_54.toNatClampNeg ((mo_tabL 256 (fun _ => 0) 0) (0 : Int32).toNatClampNeg)) (Nat.le_of_succ_le hn54) (hm_nx hn54 e54) hI54 _ _ hP hD hS ls (lv_sub hl [0, 1] rfl)
        exact lp54 16 0 (fun _ => 0) (by omega) (by decide) hT54.symm _ _ hP hD hS ls hl
      · exact absurd (hm_ge0 (N := 256) rfl e28) c32
    | succ n28 ih28 =>
      intro x1_28 g_28 hn28 e28 hI28 H locs hP hD hS ls hl
      refine lv_iload_n hx hb dX1_init_28 rfl (lv_at hl 0 rfl) ?_
      refine lv_sipush (v := 256) hx hb dX1_init_29 (by decide) ?_
      refine lv_icmp_ge (tgt := 52) hx hb dX1_init_32 (by decide) (fun c32 => ?_) (fun c32 => ?_)
      · exact absurd c32 (hm_geS (N := 256) rfl (by decide) hn28 e28)
      · refine lv_aload_n hx hb dX1_init_35 rfl (lv_at hl 1 rfl) ?_
        refine va_get (D := D) (ci := 1) (v := .ref hc) (C := RX1) (T := TX1) (N := 3) hx hb hts in_X1 hown hK hP 0 rfl rfl 1 (by decide) (hts _ q153) (fun _ h9 => h9) rfl dX1_init_36 ?_
        refine lv_iload_n hx hb dX1_init_39 rfl (lv_at hl 0 rfl) ?_
        refine lv_aload_n hx hb dX1_init_40 rfl (lv_at hl 1 rfl) ?_
        refine lv_iload_n hx hb dX1_init_41 rfl (lv_at hl 0 rfl) ?_
        refine ca_X1_codeOf S ⟨Nat.le_of_ble_eq_true rfl, Nat.le_of_ble_eq_true rfl⟩ (va_recv hK hP (ci := 1) (q0 := 0) rfl rfl) hl.1 (Nat.le_of_ble_eq_true rfl) dX1_init_42 ⟨Nat.le_refl _, Nat.le_refl _⟩ ?_
        refine va_iast hx hb hK hP hD hS 2 1 rfl rfl (hm_in (N := 256) (by decide) hn28 e28) dX1_init_45 (fun H locs hP hD hS => ?_)
        have hP : va_P D vwCl [(h0, .inr (1, [.ref hw, .ref hc, .int (0)])), (hw, .inl (dW, 16, .inl (fun _ => 0))), (hc, .inl (dK, 256, .inl (upd g_28 x1_28.toNatClampNeg (mo_code x1_28))))] H := hP
        have hD : va_D A [(h0, .inr (1, [.ref hw, .ref hc, .int (0)])), (hw, .inl (dW, 16, .inl (fun _ => 0))), (hc, .inl (dK, 256, .inl (upd g_28 x1_28.toNatClampNeg (mo_code x1_28))))] := hD
        refine lv_iinc (v := (x1_28 + 1)) (lv' := [(1, .int (x1_28 + 1)), (0, .ref h0)]) hx hb dX1_init_46 hl (k := 0) rfl rfl (by decide) rfl (fun ls hl => ?_)
        refine lv_goto (tgt := 28) hx hb dX1_init_49 (by decide) ?_
        exact ih28 (x1_28 + 1) (upd g_28 x1_28.toNatClampNeg (mo_code x1_28)) (Nat.le_of_succ_le hn28) (hm_nx hn28 e28) hI28 _ _ hP hD hS ls (lv_sub hl [0, 1] rfl)
  exact lp28 256 0 (fun _ => 0) (by omega) (by decide) hT28.symm _ _ hP hD hS ls hl
end
section
/-! THE PLAIN LAW, 1: words as numbers under 8192; their bits, ones and checks -/
theorem pn_sl : ∀ n, n < 32 → ((nI n &&& 31).toBitVec.smod 32).toNat = n := by decide +kernel
theorem pn_xor (a b : Nat) : nI a ^^^ nI b = nI (a ^^^ b) := by
  apply Int32.toBitVec_inj.1
  show BitVec.ofNat 32 a ^^^ BitVec.ofNat 32 b = BitVec.ofNat 32 (a ^^^ b)
  apply BitVec.eq_of_getLsbD_eq
  intro i hi
  simp [hi]
/-- the bit i of a -/
def pn_b (a i : Nat) : Nat := (a.testBit i).toNat
theorem pn_b_lt (a i : Nat) : pn_b a i < 2 := by
  unfold pn_b; cases a.testBit i <;> decide
theorem pn_b_xor (a b i : Nat) : pn_b (a ^^^ b) i = (pn_b a i + pn_b b i) % 2 := by
  unfold pn_b; rw [Nat.testBit_xor]; cases a.testBit i <;> cases b.testBit i <;> rfl
theorem pn_bit {a i : Nat} (ha : a < 2 ^ 31) (hi : i < 32) : ((nI a >>> (nI i &&& 31)) &&& 1) = nI (pn_b a i) := by
  have h1 : a / 2 ^ i ≤ a := Nat.div_le_self _ _
  rw [pk_shrN ha _ i (pn_sl i hi), pk_andN (m := 1) (by omega) 1 (by decide)]
  unfold pn_b
  rw [Nat.toNat_testBit]
theorem pn_b0 {a i : Nat} : nI (pn_b a i) = 0 ↔ pn_b a i = 0 := by
  have := pn_b_lt a i
  exact nI_eq (b := 0) (by omega) (by omega)
/-- the ones among n bits from i on -/
def pn_s (a : Nat) : Nat → Nat → Nat
  | 0, _ => 0
  | n + 1, i => pn_b a i + pn_s a n (i + 1)
def pn_ones (a : Nat) : Nat := pn_s a 13 0
theorem pn_onesL {a : Nat} (ha : a < 2 ^ 31) : ∀ n i t : Nat, i + n ≤ 31 → hm_onesL (nI a) n (nI t) (nI i) = nI (t + pn_s a n i) := by
  intro n
  induction n with
  | zero => intro i t _; rfl
  | succ n ih =>
    intro i t h
    unfold hm_onesL pn_s
    rw [pn_bit ha (by omega), nI_add, nI_1, ih (i + 1) _ (by omega), Nat.add_assoc]
theorem pn_ones_eq {a : Nat} (ha : a < 2 ^ 31) : hm_ones (nI a) = nI (pn_ones a) := by
  unfold hm_ones pn_ones
  have h := pn_onesL ha 13 0 0 (by omega)
  rw [Nat.zero_add] at h
  exact h
/-- the checks: exclusive or of the numbers of the bits that are one -/
def pn_c (a : Nat) : Nat → Nat → Nat → Nat
  | 0, t, _ => t
  | n + 1, t, i => if pn_b a i = 0 then pn_c a n t (i + 1) else pn_c a n (t ^^^ i) (i + 1)
def pn_chk (a : Nat) : Nat := pn_c a 12 0 1
theorem pn_chkL {a : Nat} (ha : a < 2 ^ 31) : ∀ n i t : Nat, i + n ≤ 31 → hm_chkL (nI a) n (nI t) (nI i) = nI (pn_c a n t i) := by
  intro n
  induction n with
  | zero => intro i t _; rfl
  | succ n ih =>
    intro i t h
    unfold hm_chkL pn_c
    rw [pn_bit ha (by omega), pn_xor, nI_1]
    by_cases hb : pn_b a i = 0
    · rw [if_pos (pn_b0.mpr hb), if_pos hb, ih (i + 1) _ (by omega)]
    · rw [if_neg (fun q => hb (pn_b0.mp q)), if_neg hb, ih (i + 1) _ (by omega)]
theorem pn_chk_eq {a : Nat} (ha : a < 2 ^ 31) : hm_chk (nI a) = nI (pn_chk a) := pn_chkL ha 12 1 0 (by omega)
/-- both are linear -/
theorem pn_s_xor (a b : Nat) : ∀ n i : Nat, pn_s (a ^^^ b) n i % 2 = (pn_s a n i + pn_s b n i) % 2 := by
  intro n
  induction n with
  | zero => intro i; rfl
  | succ n ih =>
    intro i
    have h1 := ih (i + 1)
    have h2 := pn_b_xor a b i
    unfold pn_s
    omega
theorem pn_b01 (a i : Nat) : pn_b a i = 0 ∨ pn_b a i = 1 := by
  have := pn_b_lt a i; omega
theorem pn_x1 (s t i : Nat) : (s ^^^ t) ^^^ i = (s ^^^ i) ^^^ t := by
  rw [Nat.xor_assoc, Nat.xor_comm t i, ← Nat.xor_assoc]
theorem pn_x2 (s t i : Nat) : (s ^^^ i) ^^^ (t ^^^ i) = s ^^^ t := by
  rw [Nat.xor_comm t i, Nat.xor_assoc, ← Nat.xor_assoc i i t, Nat.xor_self, Nat.zero_xor]
theorem pn_c_xor (a b : Nat) : ∀ n i s t : Nat, pn_c (a ^^^ b) n (s ^^^ t) i = pn_c a n s i ^^^ pn_c b n t i := by
  intro n
  induction n with
  | zero => intro i s t; rfl
  | succ n ih =>
    intro i s t
    have h2 := pn_b_xor a b i
    unfold pn_c
    rcases pn_b01 a i with ha | ha <;> rcases pn_b01 b i with hb | hb <;> rw [ha, hb] at h2 <;> rw [h2, ha, hb]
    · exact ih (i + 1) s t
    · show pn_c (a ^^^ b) n ((s ^^^ t) ^^^ i) (i + 1) = pn_c a n s (i + 1) ^^^ pn_c b n (t ^^^ i) (i + 1)
      rw [← ih (i + 1) s (t ^^^ i), Nat.xor_assoc]
    · show pn_c (a ^^^ b) n ((s ^^^ t) ^^^ i) (i + 1) = pn_c a n (s ^^^ i) (i + 1) ^^^ pn_c b n t (i + 1)
      rw [← ih (i + 1) (s ^^^ i) t, pn_x1]
    · show pn_c (a ^^^ b) n (s ^^^ t) (i + 1) = pn_c a n (s ^^^ i) (i + 1) ^^^ pn_c b n (t ^^^ i) (i + 1)
      rw [← ih (i + 1) (s ^^^ i) (t ^^^ i), pn_x2]
theorem pn_chk_xor (a b : Nat) : pn_chk (a ^^^ b) = pn_chk a ^^^ pn_chk b := pn_c_xor a b 12 1 0 0
theorem pn_par_xor (a b : Nat) : pn_ones (a ^^^ b) % 2 = (pn_ones a + pn_ones b) % 2 := pn_s_xor a b 13 0
/-! parity and the wrong bit -/
theorem pn_odd {a : Nat} (ha : a < 2 ^ 31) : hm_isOdd (nI a) = nI (pn_ones a % 2) := by
  unfold hm_isOdd
  have hs : ∀ n i : Nat, pn_s a n i ≤ n := by
    intro n
    induction n with
    | zero => intro i; exact Nat.le_refl 0
    | succ n ih =>
      intro i
      have h1 := ih (i + 1)
      have h2 := pn_b_lt a i
      unfold pn_s; omega
  have hb := hs 13 0
  rw [pn_ones_eq ha, pk_andN (m := 1) (by unfold pn_ones; omega) 1 (by decide)]
  have h2 : pn_ones a % 2 ^ 1 = 0 ∨ pn_ones a % 2 ^ 1 = 1 := by omega
  rcases h2 with h | h <;> rw [h] <;> decide
/-- the wrong bit: 13 none, 14 broken -/
def pn_w (c o : Nat) : Nat := if o = 0 then (if c = 0 then 13 else 14) else if c ≤ 12 then c else 14
def pn_wr (a : Nat) : Nat := pn_w (pn_chk a) (pn_ones a % 2)
def pn_wI (k : Nat) : Int32 := if k = 14 then -2 else nI k
theorem pn_c_lt (a : Nat) : ∀ n i t : Nat, i + n ≤ 16 → t < 16 → pn_c a n t i < 16 := by
  intro n
  induction n with
  | zero => intro i t _ h; exact h
  | succ n ih =>
    intro i t h ht
    unfold pn_c
    by_cases hb : pn_b a i = 0
    · rw [if_pos hb]; exact ih (i + 1) t (by omega) ht
    · rw [if_neg hb]
      exact ih (i + 1) _ (by omega) (Nat.xor_lt_two_pow (n := 4) ht (by omega))
theorem pn_chk_lt (a : Nat) : pn_chk a < 16 := pn_c_lt a 12 1 0 (by omega) (by omega)
theorem pn_wrong {a : Nat} (ha : a < 2 ^ 31) : hm_wrong (nI a) = pn_wI (pn_wr a) := by
  have h := pn_chk_lt a
  have ho : pn_ones a % 2 = 0 ∨ pn_ones a % 2 = 1 := by omega
  unfold hm_wrong pn_wr
  rw [pn_odd ha, pn_chk_eq ha]
  generalize pn_chk a = c at h ⊢
  generalize pn_ones a % 2 = o at ho ⊢
  revert h ho
  revert c o
  have key : ∀ c, c < 16 → ∀ o, o < 2 → (if nI o = 0 then (if nI c = 0 then 13 else -2) else (if 12 < nI c then -2 else nI c)) = pn_wI (pn_w c o) := by decide +kernel
  intro c o hc ho
  exact key c hc o (by omega)
theorem pn_w_le (c o : Nat) : pn_w c o ≤ 14 := by
  unfold pn_w
  by_cases h1 : o = 0
  · rw [if_pos h1]; by_cases h2 : c = 0
    · rw [if_pos h2]; omega
    · rw [if_neg h2]; omega
  · rw [if_neg h1]; by_cases h2 : c ≤ 12
    · rw [if_pos h2]; omega
    · rw [if_neg h2]; omega
/-! the reference's distances -/
theorem pn_mbit {a i : Nat} (ha : a < 2 ^ 31) (hi : i < 32) : mo_bit (nI a) (nI i) = nI (pn_b a i) := pn_bit ha hi
theorem pn_beq {a b i : Nat} : nI (pn_b a i) = nI (pn_b b i) ↔ pn_b (a ^^^ b) i = 0 := by
  have h1 := pn_b_lt a i
  have h2 := pn_b_lt b i
  have h3 := pn_b_xor a b i
  rw [nI_eq (by omega) (by omega)]
  omega
theorem pn_apL {a b : Nat} (ha : a < 2 ^ 31) (hb : b < 2 ^ 31) : ∀ n i t : Nat, i + n ≤ 31 → mo_apL (nI a) (nI b) n (nI t) (nI i) = nI (t + pn_s (a ^^^ b) n i) := by
  intro n
  induction n with
  | zero => intro i t _; rfl
  | succ n ih =>
    intro i t h
    unfold mo_apL pn_s
    rw [pn_mbit ha (by omega), pn_mbit hb (by omega), nI_1, nI_1]
    by_cases hq : pn_b (a ^^^ b) i = 0
    · rw [if_pos (pn_beq.mpr hq), hq, ih (i + 1) _ (by omega), Nat.zero_add]
    · rw [if_neg (fun q => hq (pn_beq.mp q)), ih (i + 1) _ (by omega)]
      have := pn_b_lt (a ^^^ b) i
      rw [show pn_b (a ^^^ b) i = 1 by omega, Nat.add_assoc]
theorem pn_ap {a b : Nat} (ha : a < 2 ^ 31) (hb : b < 2 ^ 31) : mo_ap (nI a) (nI b) = nI (pn_ones (a ^^^ b)) := by
  unfold mo_ap pn_ones
  have h := pn_apL ha hb 13 0 0 (by omega)
  rw [Nat.zero_add] at h
  exact h
/-- the first bit that is one, 13 if none -/
def pn_d (z : Nat) : Nat → Nat → Nat
  | 0, _ => 13
  | n + 1, i => if pn_b z i = 0 then pn_d z n (i + 1) else i
theorem pn_difL {a b : Nat} (ha : a < 2 ^ 31) (hb : b < 2 ^ 31) : ∀ n i : Nat, i + n ≤ 31 → mo_difL (nI a) (nI b) n (nI i) = nI (pn_d (a ^^^ b) n i) := by
  intro n
  induction n with
  | zero => intro i _; rfl
  | succ n ih =>
    intro i h
    unfold mo_difL pn_d
    rw [pn_mbit ha (by omega), pn_mbit hb (by omega), nI_1]
    by_cases hq : pn_b (a ^^^ b) i = 0
    · rw [if_pos (pn_beq.mpr hq), if_pos hq, ih (i + 1) (by omega)]
    · rw [if_neg (fun q => hq (pn_beq.mp q)), if_neg hq]
/-- what a wrong bit k turns -/
def pn_e (k : Nat) : Nat := if k = 13 then 0 else 2 ^ k
theorem pn_e_facts : ∀ k, k < 14 → pn_ones (pn_e k) ≤ 1 ∧ pn_d (pn_e k) 13 0 = k ∧ pn_e k < 8192 ∧ (k = 13 ↔ pn_e k = 0) := by decide +kernel
theorem pn_mend {a k : Nat} (hk : k < 14) : hm_mend (nI a) (nI k) = nI (a ^^^ pn_e k) := by
  unfold hm_mend pn_e
  by_cases h : k = 13
  · subst h; rw [if_pos (show nI 13 = 13 from rfl), if_pos rfl, Nat.xor_zero]
  · rw [if_neg (show ¬ nI k = 13 from fun q => h ((nI_eq (b := 13) (by omega) (by omega)).mp q)), if_neg h, ← pn_xor]
    have h2 : 2 ^ k < 2 ^ 14 := Nat.pow_lt_pow_of_lt (by omega) hk
    have h1 := pk_shlN (n := 1) (nI k &&& 31) k (pn_sl k (by omega)) (by omega)
    rw [Nat.one_mul] at h1
    rw [← h1]
    rfl
theorem pn_sh {a : Nat} (ha : a < 8192) : hm_sh (nI a) = nI a := by
  unfold hm_sh
  rw [pk_vs]
  apply Int32.toInt_inj.mp
  rw [Int16.toInt_toInt32, Int32.toInt_toInt16, nI_toInt (by omega), Int.bmod_def]
  omega
end
section
/-! THE PLAIN LAW, 2: the 256 code words -/
def pn_cd (v : Nat) : Nat := pn_b v 0 * 15 ^^^ (pn_b v 1 * 51 ^^^ (pn_b v 2 * 85 ^^^ (pn_b v 3 * 150 ^^^ (pn_b v 4 * 771 ^^^ (pn_b v 5 * 1285 ^^^ (pn_b v 6 * 2310 ^^^ pn_b v 7 * 4369))))))
theorem pn_bm (a b i G : Nat) : pn_b (a ^^^ b) i * G = (pn_b a i * G) ^^^ (pn_b b i * G) := by
  rw [pn_b_xor]
  rcases pn_b01 a i with ha | ha <;> rcases pn_b01 b i with hb | hb <;> rw [ha, hb]
  · simp
  · simp
  · simp
  · simp
theorem pn_x4 (a b c d : Nat) : (a ^^^ b) ^^^ (c ^^^ d) = (a ^^^ c) ^^^ (b ^^^ d) := by
  rw [Nat.xor_assoc, ← Nat.xor_assoc b c d, Nat.xor_comm b c, Nat.xor_assoc c b d, ← Nat.xor_assoc]
theorem pn_cd_xor (a b : Nat) : pn_cd (a ^^^ b) = pn_cd a ^^^ pn_cd b := by
  unfold pn_cd
  rw [pn_bm a b 0, pn_bm a b 1, pn_bm a b 2, pn_bm a b 3, pn_bm a b 4, pn_bm a b 5, pn_bm a b 6, pn_bm a b 7]
  symm
  rw [pn_x4, pn_x4 (pn_b a 1 * 51), pn_x4 (pn_b a 2 * 85), pn_x4 (pn_b a 3 * 150), pn_x4 (pn_b a 4 * 771), pn_x4 (pn_b a 5 * 1285), pn_x4 (pn_b a 6 * 2310)]

theorem pn_code1 : ∀ v, v < 256 → hm_enc (nI v) = nI (pn_cd v) ∧ mo_code (nI v) = nI (pn_cd v) ∧ hm_byt (nI (pn_cd v)) = nI v := by decide +kernel
end
section
/-! THE PLAIN LAW, 3: every word is a code word and one of 32 remainders -/
theorem pn_code2 : ∀ v, v < 256 → pn_chk (pn_cd v) = 0 ∧ pn_ones (pn_cd v) % 2 = 0 ∧ pn_cd v < 8192 := by decide +kernel
def pn_dat (a : Nat) : Nat := pn_b a 3 + 2 * pn_b a 5 + 4 * pn_b a 6 + 8 * pn_b a 7 + 16 * pn_b a 9 + 32 * pn_b a 10 + 64 * pn_b a 11 + 128 * pn_b a 12
def pn_rr (q : Nat) : Nat := pn_b q 0 * 1 ^^^ (pn_b q 1 * 2 ^^^ (pn_b q 2 * 4 ^^^ (pn_b q 3 * 16 ^^^ pn_b q 4 * 256)))
def pn_rho (r : Nat) : Nat := pn_b r 0 + 2 * pn_b r 1 + 4 * pn_b r 2 + 8 * pn_b r 4 + 16 * pn_b r 8
theorem pn_dat_lt (a : Nat) : pn_dat a < 256 := by
  have h3 := pn_b_lt a 3
  have h5 := pn_b_lt a 5
  have h6 := pn_b_lt a 6
  have h7 := pn_b_lt a 7
  have h9 := pn_b_lt a 9
  have h10 := pn_b_lt a 10
  have h11 := pn_b_lt a 11
  have h12 := pn_b_lt a 12
  unfold pn_dat
  omega
theorem pn_rho_lt (a : Nat) : pn_rho a < 32 := by
  have h0 := pn_b_lt a 0
  have h1 := pn_b_lt a 1
  have h2 := pn_b_lt a 2
  have h4 := pn_b_lt a 4
  have h8 := pn_b_lt a 8
  unfold pn_rho
  omega
/-- for all a from b on, 2 ^ k of them -/
def pn_all : Nat → Nat → (Nat → Bool) → Bool
  | 0, b, f => f b
  | k + 1, b, f => pn_all k b f && pn_all k (b + 2 ^ k) f
theorem pn_all_spec {f : Nat → Bool} : ∀ (k b : Nat), pn_all k b f = true → ∀ a, b ≤ a → a < b + 2 ^ k → f a = true := by
  intro k
  induction k with
  | zero =>
    intro b h a h1 h2
    rw [show a = b by omega]
    exact h
  | succ k ih =>
    intro b h a h1 h2
    unfold pn_all at h
    rw [Bool.and_eq_true] at h
    rw [Nat.pow_succ] at h2
    by_cases h3 : a < b + 2 ^ k
    · exact ih b h.1 a h1 h3
    · exact ih (b + 2 ^ k) h.2 a (by omega) (by omega)
theorem pn_dec0 : pn_all 13 0 (fun a => Nat.beq (pn_cd (pn_dat a) ^^^ pn_rr (pn_rho (a ^^^ pn_cd (pn_dat a)))) a) = true := by decide +kernel
theorem pn_dec {a : Nat} (ha : a < 8192) : ∃ d q, d < 256 ∧ q < 32 ∧ a = pn_cd d ^^^ pn_rr q := by
  have h := pn_all_spec 13 0 pn_dec0 a (Nat.zero_le _) (by omega)
  exact ⟨_, _, pn_dat_lt _, pn_rho_lt _, (Nat.eq_of_beq_eq_true h).symm⟩
theorem pn_chk_cos {d : Nat} (hd : d < 256) (r : Nat) : pn_chk (pn_cd d ^^^ r) = pn_chk r := by
  rw [pn_chk_xor, (pn_code2 d hd).1, Nat.zero_xor]
theorem pn_par_cos {d : Nat} (hd : d < 256) (r : Nat) : pn_ones (pn_cd d ^^^ r) % 2 = pn_ones r % 2 := by
  have h := pn_par_xor (pn_cd d) r
  have h2 := (pn_code2 d hd).2.1
  omega
theorem pn_wr_cos {d : Nat} (hd : d < 256) (r : Nat) : pn_wr (pn_cd d ^^^ r) = pn_wr r := by
  unfold pn_wr
  rw [pn_chk_cos hd, pn_par_cos hd]
/-- the distance to the code word b -/
theorem pn_dis (d r b : Nat) : (pn_cd d ^^^ r) ^^^ pn_cd b = r ^^^ pn_cd (b ^^^ d) := by
  rw [pn_cd_xor, Nat.xor_comm (pn_cd d) r, Nat.xor_assoc, Nat.xor_comm (pn_cd d)]
theorem pn_xlt {a b : Nat} (ha : a < 256) (hb : b < 256) : a ^^^ b < 256 := Nat.xor_lt_two_pow (n := 8) ha hb
theorem pn_xx (a b : Nat) : (a ^^^ b) ^^^ b = a := by rw [Nat.xor_assoc, Nat.xor_self, Nat.xor_zero]
/-- the table of the 32 remainders -/
def pn_tab (q : Nat) : Bool :=
  if pn_wr (pn_rr q) = 14 then pn_all 8 0 (fun c => Nat.ble 2 (pn_ones (pn_rr q ^^^ pn_cd c)))
  else Nat.beq (pn_cd (pn_dat (pn_rr q ^^^ pn_e (pn_wr (pn_rr q))))) (pn_rr q ^^^ pn_e (pn_wr (pn_rr q))) && pn_all 8 0 (fun c => Nat.beq c (pn_dat (pn_rr q ^^^ pn_e (pn_wr (pn_rr q)))) || Nat.ble 2 (pn_ones (pn_rr q ^^^ pn_cd c)))
theorem pn_tab_ok : ∀ q, q < 32 → pn_tab q = true := by decide +kernel
/-- a word is broken and 2 or more away from all code words, or one code word alone is as near as 1 -/
theorem pn_word {a : Nat} (ha : a < 8192) : (pn_wr a = 14 ∧ ∀ b, b < 256 → 2 ≤ pn_ones (a ^^^ pn_cd b)) ∨ (pn_wr a < 14 ∧ ∃ b0, b0 < 256 ∧ pn_cd b0 = a ^^^ pn_e (pn_wr a) ∧ ∀ b, b < 256 → b ≠ b0 → 2 ≤ pn_ones (a ^^^ pn_cd b)) := by
  obtain ⟨d, q, hd, hq, rfl⟩ := pn_dec ha
  have ht := pn_tab_ok q hq
  rw [pn_wr_cos hd]
  unfold pn_tab at ht
  by_cases hk : pn_wr (pn_rr q) = 14
  · rw [if_pos hk] at ht
    refine Or.inl ⟨hk, fun b hb => ?_⟩
    rw [pn_dis]
    exact Nat.le_of_ble_eq_true (pn_all_spec 8 0 ht (b ^^^ d) (Nat.zero_le _) (by have := pn_xlt hb hd; omega))
  · rw [if_neg hk, Bool.and_eq_true] at ht
    have h1 := Nat.eq_of_beq_eq_true ht.1
    have hle := pn_w_le (pn_chk (pn_rr q)) (pn_ones (pn_rr q) % 2)
    have hlt : pn_wr (pn_rr q) < 14 := by
      have : pn_wr (pn_rr q) ≤ 14 := hle
      omega
    refine Or.inr ⟨hlt, pn_dat (pn_rr q ^^^ pn_e (pn_wr (pn_rr q))) ^^^ d, pn_xlt (pn_dat_lt _) hd, ?_, fun b hb hne => ?_⟩
    · rw [pn_cd_xor, h1, Nat.xor_comm, Nat.xor_assoc]
    · rw [pn_dis]
      have h2 := pn_all_spec 8 0 ht.2 (b ^^^ d) (Nat.zero_le _) (by have := pn_xlt hb hd; omega)
      rw [Bool.or_eq_true] at h2
      rcases h2 with h2 | h2
      · exact absurd (by rw [← Nat.eq_of_beq_eq_true h2, pn_xx]) hne
      · exact Nat.le_of_ble_eq_true h2
end
section
/-! THE PLAIN LAW, 4: how many code words are nearest -/
def pn_S : Nat → (Nat → Nat) → Nat
  | 0, P => P 0
  | k + 1, P => pn_S k P + pn_S k (fun b => P (b ^^^ 2 ^ k))
theorem pn_S_x : ∀ (k i : Nat) (P : Nat → Nat), i < k → pn_S k (fun b => P (b ^^^ 2 ^ i)) = pn_S k P := by
  intro k
  induction k with
  | zero => intro i P h; omega
  | succ k ih =>
    intro i P h
    unfold pn_S
    by_cases hi : i = k
    · subst hi
      have h1 : (fun b => P ((b ^^^ 2 ^ i) ^^^ 2 ^ i)) = P := by
        funext b; rw [pn_xx]
      rw [h1, Nat.add_comm]
    · have h1 : (fun b => P ((b ^^^ 2 ^ k) ^^^ 2 ^ i)) = (fun b => (fun c => P (c ^^^ 2 ^ k)) (b ^^^ 2 ^ i)) := by
        funext b
        show P _ = P _
        rw [pn_x1]
      rw [h1, ih i P (by omega), ih i (fun c => P (c ^^^ 2 ^ k)) (by omega)]
theorem pn_S_bit (P : Nat → Nat) (i : Nat) (hi : i < 8) (d : Nat) : pn_S 8 (fun b => P (b ^^^ pn_b d i * 2 ^ i)) = pn_S 8 P := by
  rcases pn_b01 d i with h | h <;> rw [h]
  · have h1 : (fun b => P (b ^^^ 0 * 2 ^ i)) = P := by
      funext b; rw [Nat.zero_mul, Nat.xor_zero]
    rw [h1]
  · rw [Nat.one_mul]
    exact pn_S_x 8 i P hi
theorem pn_bits : ∀ d, d < 256 → d = pn_b d 0 * 2 ^ 0 ^^^ (pn_b d 1 * 2 ^ 1 ^^^ (pn_b d 2 * 2 ^ 2 ^^^ (pn_b d 3 * 2 ^ 3 ^^^ (pn_b d 4 * 2 ^ 4 ^^^ (pn_b d 5 * 2 ^ 5 ^^^ (pn_b d 6 * 2 ^ 6 ^^^ pn_b d 7 * 2 ^ 7)))))) := by decide +kernel
theorem pn_S_sh (P : Nat → Nat) (y R : Nat) (h : ∀ Q : Nat → Nat, pn_S 8 (fun b => Q (b ^^^ y)) = pn_S 8 Q) (h2 : pn_S 8 (fun b => P (b ^^^ R)) = pn_S 8 P) : pn_S 8 (fun b => P (b ^^^ (y ^^^ R))) = pn_S 8 P := by
  have h1 : (fun b => P (b ^^^ (y ^^^ R))) = (fun b => (fun c => P (c ^^^ R)) (b ^^^ y)) := by
    funext b
    show P _ = P _
    rw [Nat.xor_assoc]
  rw [h1, h (fun c => P (c ^^^ R)), h2]
theorem pn_S_d (P : Nat → Nat) {d : Nat} (hd : d < 256) : pn_S 8 (fun b => P (b ^^^ d)) = pn_S 8 P := by
  have h := pn_bits d hd
  have h1 : (fun b => P (b ^^^ d)) = (fun b => P (b ^^^ (pn_b d 0 * 2 ^ 0 ^^^ (pn_b d 1 * 2 ^ 1 ^^^ (pn_b d 2 * 2 ^ 2 ^^^ (pn_b d 3 * 2 ^ 3 ^^^ (pn_b d 4 * 2 ^ 4 ^^^ (pn_b d 5 * 2 ^ 5 ^^^ (pn_b d 6 * 2 ^ 6 ^^^ pn_b d 7 * 2 ^ 7))))))))) := by
    funext b
    rw [← h]
  rw [h1]
  refine pn_S_sh P _ _ (fun Q => pn_S_bit Q 0 (by omega) d) ?_
  refine pn_S_sh P _ _ (fun Q => pn_S_bit Q 1 (by omega) d) ?_
  refine pn_S_sh P _ _ (fun Q => pn_S_bit Q 2 (by omega) d) ?_
  refine pn_S_sh P _ _ (fun Q => pn_S_bit Q 3 (by omega) d) ?_
  refine pn_S_sh P _ _ (fun Q => pn_S_bit Q 4 (by omega) d) ?_
  refine pn_S_sh P _ _ (fun Q => pn_S_bit Q 5 (by omega) d) ?_
  refine pn_S_sh P _ _ (fun Q => pn_S_bit Q 6 (by omega) d) ?_
  exact pn_S_bit P 7 (by omega) d
/-- the same sum in the loop's order -/
def pn_F (P : Nat → Nat) : Nat → Nat → Nat
  | 0, _ => 0
  | n + 1, i => P i + pn_F P n (i + 1)
theorem pn_F_add (P : Nat → Nat) (n : Nat) : ∀ m i, pn_F P (m + n) i = pn_F P m i + pn_F P n (i + m) := by
  intro m
  induction m with
  | zero => intro i; rw [Nat.zero_add]; show _ = 0 + _; rw [Nat.zero_add]; rfl
  | succ m ih =>
    intro i
    rw [show m + 1 + n = (m + n) + 1 by omega]
    show P i + pn_F P (m + n) (i + 1) = (P i + pn_F P m (i + 1)) + pn_F P n (i + (m + 1))
    rw [ih (i + 1), show i + 1 + m = i + (m + 1) by omega, Nat.add_assoc]
theorem pn_F_sh (P : Nat → Nat) (j : Nat) : ∀ n i, pn_F P n (i + j) = pn_F (fun b => P (b + j)) n i := by
  intro n
  induction n with
  | zero => intro i; rfl
  | succ n ih =>
    intro i
    unfold pn_F
    rw [← ih (i + 1), show i + 1 + j = i + j + 1 by omega]
theorem pn_S_congr : ∀ (k : Nat) (P Q : Nat → Nat), (∀ b, b < 2 ^ k → P b = Q b) → pn_S k P = pn_S k Q := by
  intro k
  induction k with
  | zero => intro P Q h; exact h 0 (by decide)
  | succ k ih =>
    intro P Q h
    unfold pn_S
    have h1 : 2 ^ k < 2 ^ (k + 1) := Nat.pow_lt_pow_of_lt (by omega) (by omega)
    rw [ih P Q (fun b hb => h b (by omega)), ih (fun b => P (b ^^^ 2 ^ k)) (fun b => Q (b ^^^ 2 ^ k)) (fun b hb => h _ (Nat.xor_lt_two_pow (by omega) h1))]
theorem pn_hi : ∀ k, k < 8 → ∀ b, b < 2 ^ k → b ^^^ 2 ^ k = b + 2 ^ k := by decide +kernel
theorem pn_F_S : ∀ (k : Nat), k ≤ 8 → ∀ P : Nat → Nat, pn_F P (2 ^ k) 0 = pn_S k P := by
  intro k
  induction k with
  | zero => intro _ P; rfl
  | succ k ih =>
    intro hk P
    rw [Nat.pow_succ, Nat.mul_two, pn_F_add, pn_F_sh, ih (by omega), ih (by omega)]
    show pn_S k P + pn_S k (fun b => P (b + 2 ^ k)) = pn_S k P + pn_S k (fun b => P (b ^^^ 2 ^ k))
    rw [pn_S_congr k (fun b => P (b + 2 ^ k)) (fun b => P (b ^^^ 2 ^ k)) (fun b hb => by rw [pn_hi k (by omega) b hb])]
/-! the loop -/
def pn_N (t : Nat → Nat) : Nat → Nat → Nat → Nat → Nat
  | 0, L, K, _ => 1000 * L + K
  | n + 1, L, K, i => if L ≤ t i then (if t i = L then pn_N t n L (K + 1) (i + 1) else pn_N t n L K (i + 1)) else pn_N t n (t i) 1 (i + 1)
theorem pn_N_spec {t : Nat → Nat} {m : Nat} : ∀ (n i L K : Nat), (∀ b, i ≤ b → b < i + n → m ≤ t b) → (m = L → pn_N t n L K i = 1000 * m + (K + pn_F (fun b => if t b = m then 1 else 0) n i)) ∧ (m < L → 0 < pn_F (fun b => if t b = m then 1 else 0) n i → pn_N t n L K i = 1000 * m + pn_F (fun b => if t b = m then 1 else 0) n i) := by
  intro n
  induction n with
  | zero =>
    intro i L K _
    refine ⟨fun h => ?_, fun h h2 => ?_⟩
    · rw [h]; rfl
    · exact absurd h2 (Nat.lt_irrefl 0)
  | succ n ih =>
    intro i L K hm
    have hi := hm i (Nat.le_refl _) (by omega)
    have hm' : ∀ b, i + 1 ≤ b → b < i + 1 + n → m ≤ t b := fun b h1 h2 => hm b (by omega) (by omega)
    unfold pn_N pn_F
    refine ⟨fun h => ?_, fun h h2 => ?_⟩
    · subst h
      rw [if_pos hi]
      by_cases hq : t i = m
      · rw [if_pos hq, (ih (i + 1) m (K + 1) hm').1 rfl, if_pos hq, Nat.add_assoc]
      · rw [if_neg hq, (ih (i + 1) m K hm').1 rfl, if_neg hq, Nat.zero_add]
    · by_cases hq : t i = m
      · rw [if_neg (by omega), hq, (ih (i + 1) m 1 hm').1 rfl, if_pos rfl]
      · rw [if_neg hq, Nat.zero_add] at h2 ⊢
        by_cases hL : L ≤ t i
        · rw [if_pos hL]
          by_cases hq2 : t i = L
          · rw [if_pos hq2, (ih (i + 1) L (K + 1) hm').2 h h2]
          · rw [if_neg hq2, (ih (i + 1) L K hm').2 h h2]
        · rw [if_neg hL, (ih (i + 1) (t i) 1 hm').2 (by omega) h2]
theorem pn_s_le (a : Nat) : ∀ n i : Nat, pn_s a n i ≤ n := by
  intro n
  induction n with
  | zero => intro i; exact Nat.le_refl 0
  | succ n ih =>
    intro i
    have h1 := ih (i + 1)
    have h2 := pn_b_lt a i
    unfold pn_s; omega
theorem pn_ones_le (a : Nat) : pn_ones a ≤ 13 := pn_s_le a 13 0
theorem pn_nearL {a : Nat} {g : Nat → Int32} (ha : a < 8192) (hg : ∀ j, j < 256 → g j = nI (pn_cd j)) : ∀ n i L K : Nat, i + n = 256 → L ≤ 13 → K ≤ i → mo_nearL (nI a) g n (nI L) (nI K) (nI i) = nI (pn_N (fun b => pn_ones (a ^^^ pn_cd b)) n L K i) := by
  intro n
  induction n with
  | zero =>
    intro i L K hi hL hK
    show (1000 : Int32) * nI L + nI K = nI (1000 * L + K)
    rw [show (1000 : Int32) = nI 1000 from rfl, pk_mul, nI_add]
  | succ n ih =>
    intro i L K hi hL hK
    unfold mo_nearL pn_N
    have hcd := (pn_code2 i (by omega)).2.2
    have ho := pn_ones_le (a ^^^ pn_cd i)
    rw [nI_clamp (show i < 2 ^ 31 by omega), hg i (by omega), pn_ap (by omega) (by omega)]
    show (if nI L ≤ nI (pn_ones (a ^^^ pn_cd i)) then (if nI (pn_ones (a ^^^ pn_cd i)) = nI L then mo_nearL (nI a) g n (nI L) (nI K + 1) (nI i + 1) else mo_nearL (nI a) g n (nI L) (nI K) (nI i + 1)) else (if nI (pn_ones (a ^^^ pn_cd i)) = nI (pn_ones (a ^^^ pn_cd i)) then mo_nearL (nI a) g n (nI (pn_ones (a ^^^ pn_cd i))) (nI 1) (nI i + 1) else mo_nearL (nI a) g n (nI (pn_ones (a ^^^ pn_cd i))) 0 (nI i + 1))) = nI (if L ≤ pn_ones (a ^^^ pn_cd i) then (if pn_ones (a ^^^ pn_cd i) = L then pn_N (fun b => pn_ones (a ^^^ pn_cd b)) n L (K + 1) (i + 1) else pn_N (fun b => pn_ones (a ^^^ pn_cd b)) n L K (i + 1)) else pn_N (fun b => pn_ones (a ^^^ pn_cd b)) n (pn_ones (a ^^^ pn_cd i)) 1 (i + 1))
    rw [nI_1, nI_1]
    by_cases h1 : L ≤ pn_ones (a ^^^ pn_cd i)
    · rw [if_pos ((nI_leI (by omega) (by omega)).mpr h1), if_pos h1]
      by_cases h2 : pn_ones (a ^^^ pn_cd i) = L
      · rw [if_pos (by rw [h2]), if_pos h2, ih (i + 1) L (K + 1) (by omega) hL (by omega)]
      · rw [if_neg (fun q => h2 ((nI_eq (by omega) (by omega)).mp q)), if_neg h2, ih (i + 1) L K (by omega) hL (by omega)]
    · rw [if_neg (fun q => h1 ((nI_leI (by omega) (by omega)).mp q)), if_neg h1, if_pos rfl, ih (i + 1) _ 1 (by omega) ho (by omega)]
/-! the component's answer, and the table -/
def pn_nI (c o : Nat) : Int32 := if pn_wI (pn_w c o) = 13 then 1 else if pn_wI (pn_w c o) < 0 then (if nI o = 0 then 2000 + hm_w2 (nI c) else 3000 + hm_w3 (nI c)) else 1001
theorem pn_nearW {a : Nat} (ha : a < 2 ^ 31) : hm_nearW (nI a) = pn_nI (pn_chk a) (pn_ones a % 2) := by
  unfold hm_nearW pn_nI
  rw [pn_wrong ha, pn_odd ha, pn_chk_eq ha]
  rfl
/-- how far the nearest code word is -/
def pn_m (c o : Nat) : Nat := if pn_w c o = 13 then 0 else if pn_w c o < 13 then 1 else if o = 0 then 2 else 3
def pn_mr (q : Nat) : Nat := pn_m (pn_chk (pn_rr q)) (pn_ones (pn_rr q) % 2)
def pn_cnt (q : Nat) : Nat := pn_S 8 (fun c => if pn_ones (pn_rr q ^^^ pn_cd c) = pn_mr q then 1 else 0)
theorem pn_tab2 : ∀ q, q < 32 → pn_all 8 0 (fun c => Nat.ble (pn_mr q) (pn_ones (pn_rr q ^^^ pn_cd c))) = true ∧ 0 < pn_cnt q ∧ pn_nI (pn_chk (pn_rr q)) (pn_ones (pn_rr q) % 2) = nI (1000 * pn_mr q + pn_cnt q) := by decide +kernel
theorem pn_m_lt (c o : Nat) : pn_m c o < 13 := by
  unfold pn_m
  by_cases h1 : pn_w c o = 13
  · rw [if_pos h1]; omega
  · rw [if_neg h1]
    by_cases h2 : pn_w c o < 13
    · rw [if_pos h2]; omega
    · rw [if_neg h2]
      by_cases h3 : o = 0
      · rw [if_pos h3]; omega
      · rw [if_neg h3]; omega
theorem pn_near {a : Nat} {g : Nat → Int32} (ha : a < 8192) (hg : ∀ j, j < 256 → g j = nI (pn_cd j)) : hm_nearW (nI a) = mo_nearL (nI a) g 256 13 0 0 := by
  have hN := pn_nearL ha hg 256 0 13 0 (by omega) (Nat.le_refl _) (Nat.le_refl _)
  rw [show mo_nearL (nI a) g 256 13 0 0 = mo_nearL (nI a) g 256 (nI 13) (nI 0) (nI 0) from rfl, hN, pn_nearW (by omega)]
  clear hN
  obtain ⟨d, q, hd, hq, rfl⟩ := pn_dec ha
  rw [pn_chk_cos hd, pn_par_cos hd]
  obtain ⟨t1, t2, t3⟩ := pn_tab2 q hq
  rw [t3]
  have hdis : (fun b => pn_ones ((pn_cd d ^^^ pn_rr q) ^^^ pn_cd b)) = (fun b => pn_ones (pn_rr q ^^^ pn_cd (b ^^^ d))) := by
    funext b; rw [pn_dis]
  rw [hdis]
  have hF : pn_F (fun b => if pn_ones (pn_rr q ^^^ pn_cd (b ^^^ d)) = pn_mr q then 1 else 0) 256 0 = pn_cnt q := by
    rw [show (256 : Nat) = 2 ^ 8 from rfl, pn_F_S 8 (Nat.le_refl _)]
    exact pn_S_d (fun c => if pn_ones (pn_rr q ^^^ pn_cd c) = pn_mr q then 1 else 0) hd
  have hs := (pn_N_spec (t := fun b => pn_ones (pn_rr q ^^^ pn_cd (b ^^^ d))) (m := pn_mr q) 256 0 13 0 (fun b _ hb => Nat.le_of_ble_eq_true (pn_all_spec 8 0 t1 (b ^^^ d) (Nat.zero_le _) (by have := pn_xlt (a := b) (by omega) hd; omega)))).2 (pn_m_lt _ _) (by rw [hF]; exact t2)
  rw [hs, hF]
end
section
/-! THE PLAIN LAW, 5: the two objects' states belong together, and each call answers alike -/
def hm_Rel (f : Nat → Int32) (h : Int32) (fm g : Nat → Int32) (k : Int32) : Prop := (∀ j, j < 16 → ∃ a, a < 8192 ∧ f j = nI a ∧ fm j = nI a) ∧ (∃ a, a < 16 ∧ h = nI a ∧ k = nI a) ∧ ∀ j, j < 256 → g j = nI (pn_cd j)
theorem pl_w {w : Int32} (h : ¬ hm_isWord w = 0) : ∃ j, j < 16 ∧ w = nI j ∧ w.toNatClampNeg = j := by
  obtain ⟨j, hj, rfl⟩ := vp_in_of (hm_isWord_in h) (by decide)
  exact ⟨j, hj, rfl, nI_clamp (by omega)⟩
theorem pl_isWord : ∀ j, j < 16 → ¬ hm_isWord (nI j) = 0 := by decide +kernel
theorem pl_byte {v : Int32} (h0 : ¬ v < 0) (h : v ≤ 255) : ∃ j, j < 256 ∧ v = nI j ∧ v.toNatClampNeg = j := by
  obtain ⟨j, hj, rfl⟩ := nI_of2 (M := 255) (n := 255) (by decide) h0 h
  exact ⟨j, by omega, rfl, nI_clamp (by omega)⟩
/-- a word is written anew on both sides -/
theorem pl_upd {f fm g : Nat → Int32} {h k : Int32} (hR : hm_Rel f h fm g k) (j : Nat) {a : Nat} {x y : Int32} (ha : a < 8192) (hx : x = nI a) (hy : y = nI a) : hm_Rel (upd f j x) h (upd fm j y) g k := by
  refine ⟨fun i hi => ?_, hR.2.1, hR.2.2⟩
  by_cases e : i = j
  · subst e
    exact ⟨a, ha, by rw [pk_us]; exact hx, by rw [pk_us]; exact hy⟩
  · obtain ⟨b, hb, h1, h2⟩ := hR.1 i hi
    exact ⟨b, hb, by rw [pk_un e]; exact h1, by rw [pk_un e]; exact h2⟩
section PLR
variable {f fm g : Nat → Int32} {h k : Int32}
theorem pl_write (hR : hm_Rel f h fm g k) (w v : Int32) : (hm_write f w v).1 = (mo_write fm g w v).1 ∧ hm_Rel (hm_write f w v).2 h (mo_write fm g w v).2 g k := by
  unfold hm_write mo_write
  by_cases h1 : hm_isWord w = 0
  · rw [if_pos h1, if_pos h1]; exact ⟨rfl, hR⟩
  rw [if_neg h1, if_neg h1]
  by_cases h2 : v < 0
  · rw [if_pos h2, if_pos h2]; exact ⟨rfl, hR⟩
  rw [if_neg h2, if_neg h2]
  by_cases h3 : v ≤ 255
  · rw [if_pos h3, if_pos h3]
    obtain ⟨j, hj, rfl, e⟩ := pl_byte h2 h3
    have h4 := pn_code1 j hj
    have h5 := (pn_code2 j hj).2.2
    rw [e, h4.1, pn_sh h5, hR.2.2 j hj]
    show upd f w.toNatClampNeg (nI (pn_cd j)) w.toNatClampNeg = upd fm w.toNatClampNeg (nI (pn_cd j)) w.toNatClampNeg ∧ hm_Rel (upd f w.toNatClampNeg (nI (pn_cd j))) h (upd fm w.toNatClampNeg (nI (pn_cd j))) g k
    exact ⟨by rw [pk_us, pk_us], pl_upd hR _ h5 rfl rfl⟩
  · rw [if_neg h3, if_neg h3]; exact ⟨rfl, hR⟩
theorem pl_pow : ∀ j, j < 13 → ((1 : Int32) <<< (nI j &&& 31)) = nI (2 ^ j) ∧ 2 ^ j < 8192 := by decide +kernel
theorem pl_flip (hR : hm_Rel f h fm g k) (w v : Int32) : (hm_flip f w v).1 = (mo_flip fm w v).1 ∧ hm_Rel (hm_flip f w v).2 h (mo_flip fm w v).2 g k := by
  unfold hm_flip mo_flip
  by_cases h1 : hm_isWord w = 0
  · rw [if_pos h1, if_pos h1]; exact ⟨rfl, hR⟩
  rw [if_neg h1, if_neg h1]
  by_cases h2 : v < 0
  · rw [if_pos h2, if_pos h2]; exact ⟨rfl, hR⟩
  rw [if_neg h2, if_neg h2]
  by_cases h3 : v ≤ 12
  · rw [if_pos h3, if_pos h3]
    obtain ⟨i, hi, rfl⟩ := nI_of2 (M := 12) (n := 12) (by decide) h2 h3
    obtain ⟨j, hj, -, e⟩ := pl_w h1
    obtain ⟨a, ha, e1, e2⟩ := hR.1 j hj
    have h4 := pl_pow i (by omega)
    have h5 : a ^^^ 2 ^ i < 8192 := Nat.xor_lt_two_pow (n := 13) ha h4.2
    rw [e, e1, e2, h4.1, pn_xor, pn_sh h5]
    show upd f j (nI (a ^^^ 2 ^ i)) j = upd fm j (nI (a ^^^ 2 ^ i)) j ∧ hm_Rel (upd f j (nI (a ^^^ 2 ^ i))) h (upd fm j (nI (a ^^^ 2 ^ i))) g k
    exact ⟨by rw [pk_us, pk_us], pl_upd hR _ h5 rfl rfl⟩
  · rw [if_neg h3, if_neg h3]; exact ⟨rfl, hR⟩
/-! reading -/
theorem pl_readL_none {a : Nat} (ha : a < 8192) (hg : ∀ j, j < 256 → g j = nI (pn_cd j)) (hn : ∀ b, b < 256 → 2 ≤ pn_ones (a ^^^ pn_cd b)) : ∀ n i : Nat, i + n = 256 → mo_readL (nI a) g n (nI i) = -2 := by
  intro n
  induction n with
  | zero => intro i _; rfl
  | succ n ih =>
    intro i hi
    have hcd := (pn_code2 i (by omega)).2.2
    have ho := pn_ones_le (a ^^^ pn_cd i)
    unfold mo_readL
    rw [nI_clamp (show i < 2 ^ 31 by omega), hg i (by omega), pn_ap (by omega) (by omega), if_pos (show (1 : Int32) < _ from nI_lt (a := 1) (hn i (by omega)) (by omega)), nI_1]
    exact ih (i + 1) (by omega)
theorem pl_readL_some {a b0 : Nat} (ha : a < 8192) (hg : ∀ j, j < 256 → g j = nI (pn_cd j)) (hb : b0 < 256) (h1 : pn_ones (a ^^^ pn_cd b0) ≤ 1) (hn : ∀ b, b < 256 → b ≠ b0 → 2 ≤ pn_ones (a ^^^ pn_cd b)) : ∀ n i : Nat, i + n = 256 → i ≤ b0 → mo_readL (nI a) g n (nI i) = nI b0 := by
  intro n
  induction n with
  | zero => intro i h2 h3; omega
  | succ n ih =>
    intro i hi hle
    have hcd := (pn_code2 i (by omega)).2.2
    have ho := pn_ones_le (a ^^^ pn_cd i)
    unfold mo_readL
    rw [nI_clamp (show i < 2 ^ 31 by omega), hg i (by omega), pn_ap (by omega) (by omega)]
    by_cases hq : i = b0
    · subst hq
      rw [if_neg (show ¬ (1 : Int32) < _ from nI_nlt (a := 1) h1 (by decide))]
    · rw [if_pos (show (1 : Int32) < _ from nI_lt (a := 1) (hn i (by omega) hq) (by omega)), nI_1]
      exact ih (i + 1) (by omega) (by omega)
/-- one word read on both sides: broken, or the byte b0 -/
theorem pl_word {a : Nat} (ha : a < 8192) (hg : ∀ j, j < 256 → g j = nI (pn_cd j)) :
    (hm_wrong (nI a) = -2 ∧ mo_readL (nI a) g 256 0 = -2) ∨ ∃ q b0, q < 14 ∧ b0 < 256 ∧ hm_wrong (nI a) = nI q ∧ pn_cd b0 = a ^^^ pn_e q ∧ hm_mend (nI a) (nI q) = nI (pn_cd b0) ∧ hm_byt (nI (pn_cd b0)) = nI b0 ∧ mo_readL (nI a) g 256 0 = nI b0 := by
  rcases pn_word ha with ⟨hk, hn⟩ | ⟨hk, b0, hb, hc, hn⟩
  · refine Or.inl ⟨by rw [pn_wrong (by omega), hk]; rfl, pl_readL_none ha hg hn 256 0 (by omega)⟩
  · refine Or.inr ⟨pn_wr a, b0, hk, hb, ?_, hc, ?_, (pn_code1 b0 hb).2.2, ?_⟩
    · rw [pn_wrong (by omega), pn_wI, if_neg (by omega)]
    · rw [pn_mend hk, hc]
    · refine pl_readL_some ha hg hb ?_ hn 256 0 (by omega) (Nat.zero_le _)
      rw [hc, ← Nat.xor_assoc, Nat.xor_self, Nat.zero_xor]
      exact (pn_e_facts _ hk).1
theorem pl_m2 {b : Nat} (hb : b < 256) : ¬ nI b = -2 ∧ ¬ nI b < 0 := by
  have h2 : ¬ nI b < 0 := nI_pos (by omega)
  exact ⟨fun q => h2 (by rw [q]; decide), h2⟩
theorem pl_read (hR : hm_Rel f h fm g k) (w : Int32) : hm_read f w = mo_read fm g w := by
  unfold hm_read mo_read
  by_cases h1 : hm_isWord w = 0
  · rw [if_pos h1, if_pos h1]
  rw [if_neg h1, if_neg h1]
  obtain ⟨j, hj, -, e⟩ := pl_w h1
  obtain ⟨a, ha, e1, e2⟩ := hR.1 j hj
  rw [e, e1, e2]
  rcases pl_word ha hR.2.2 with ⟨h2, h3⟩ | ⟨q, b0, hq, hb, h2, h3, h4, h5, h6⟩
  · rw [if_pos h2, h3]
  · rw [h2, if_neg (pl_m2 (b := q) (by omega)).1, h4, h5, h6]
theorem pl_read_cases (hR : hm_Rel f h fm g k) {w : Int32} (h1 : ¬ hm_isWord w = 0) : mo_read fm g w = -2 ∨ ∃ b, b < 256 ∧ mo_read fm g w = nI b := by
  unfold mo_read
  rw [if_neg h1]
  obtain ⟨j, hj, -, e⟩ := pl_w h1
  obtain ⟨a, ha, e1, e2⟩ := hR.1 j hj
  rw [e, e2]
  rcases pl_word ha hR.2.2 with ⟨h2, h3⟩ | ⟨q, b0, hq, hb, h2, h3, h4, h5, h6⟩
  · exact Or.inl h3
  · exact Or.inr ⟨b0, hb, h6⟩
theorem pl_rep (hR : hm_Rel f h fm g k) (w : Int32) : (hm_rep f w).1 = (mo_rep fm g w).1 ∧ hm_Rel (hm_rep f w).2 h (mo_rep fm g w).2 g k := by
  unfold hm_rep mo_rep mo_read
  by_cases h1 : hm_isWord w = 0
  · rw [if_pos h1, if_pos h1, if_neg (by decide)]; exact ⟨rfl, hR⟩
  rw [if_neg h1, if_neg h1]
  obtain ⟨j, hj, -, e⟩ := pl_w h1
  obtain ⟨a, ha, e1, e2⟩ := hR.1 j hj
  rw [e, e1, e2]
  rcases pl_word ha hR.2.2 with ⟨h2, h3⟩ | ⟨q, b0, hq, hb, h2, h3, h4, h5, h6⟩
  · rw [h2, h3, if_pos (by decide), if_neg (by decide)]; exact ⟨rfl, hR⟩
  · have h7 := (pn_code2 b0 hb).2.2
    have h8 := (pn_e_facts q hq).2.1
    rw [h2, h6, if_neg (pl_m2 (b := q) (by omega)).2, if_pos (nI_pos' (by omega)), h4, nI_clamp (show b0 < 2 ^ 31 by omega), hR.2.2 b0 hb, pn_sh h7, pk_us]
    refine ⟨?_, pl_upd hR _ h7 rfl rfl⟩
    show nI q = mo_difL (nI a) (nI (pn_cd b0)) 13 (nI 0)
    rw [pn_difL (by omega) (by omega) 13 0 (by omega), h3, ← Nat.xor_assoc, Nat.xor_self, Nat.zero_xor, h8]
theorem pl_rep_r (hR : hm_Rel f h fm g k) (w : Int32) : (mo_rep fm g w).1 < 0 ∨ ∃ q, q < 14 ∧ (mo_rep fm g w).1 = nI q := by
  rw [← (pl_rep hR w).1]
  unfold hm_rep
  by_cases h1 : hm_isWord w = 0
  · rw [if_pos h1]; exact Or.inl (show (-1 : Int32) < 0 by decide)
  rw [if_neg h1]
  obtain ⟨j, hj, -, e⟩ := pl_w h1
  obtain ⟨a, ha, e1, e2⟩ := hR.1 j hj
  rw [e, e1]
  rcases pl_word ha hR.2.2 with ⟨h2, h3⟩ | ⟨q, b0, hq, hb, h2, h3, h4, h5, h6⟩
  · rw [h2, if_pos (by decide)]; exact Or.inl (show (-2 : Int32) < 0 by decide)
  · rw [h2, if_neg (pl_m2 (b := q) (by omega)).2]; exact Or.inr ⟨q, hq, rfl⟩
theorem pl_next : ∀ a, a < 16 → ∃ b, b < 16 ∧ (nI a + 1) &&& 15 = nI b ∧ (nI a + 1) - (nI a + 1) / 16 * 16 = nI b := by
  intro a ha
  refine ⟨(a + 1) % 16, Nat.mod_lt _ (by decide), ?_, ?_⟩
  · rw [nI_1, pk_andN (m := 15) (by omega) 4 (by decide)]
  · rw [nI_1, show (16 : Int32) = nI 16 from rfl, pk_rem (by omega) (by omega) (by omega)]
theorem pl_13 : ∀ q, q < 14 → ((13 : Int32) ≤ nI q ↔ 12 < nI q) := by decide +kernel
theorem pl_scrL : ∀ (n : Nat) (f fm : Nat → Int32) (h k t : Int32), hm_Rel f h fm g k → (hm_scrL n f h t).1 = (mo_scrL g n fm k t).1 ∧ hm_Rel (hm_scrL n f h t).2.1 (hm_scrL n f h t).2.2 (mo_scrL g n fm k t).2.1 g (mo_scrL g n fm k t).2.2 := by
  intro n
  induction n with
  | zero => intro f fm h k t hR; exact ⟨rfl, hR⟩
  | succ n ih =>
    intro f fm h k t hR
    obtain ⟨a, ha, e1, e2⟩ := hR.2.1
    have hr := pl_rep hR h
    have hrr := pl_rep_r hR h
    have hhk : h = k := by rw [e1, e2]
    subst hhk
    obtain ⟨b, hb, n1, n2⟩ := pl_next a ha
    have hR2 : hm_Rel (hm_rep f h).2 ((h + 1) &&& 15) (mo_rep fm g h).2 g ((h + 1) - (h + 1) / 16 * 16) := ⟨hr.2.1, ⟨b, hb, by rw [e1]; exact n1, by rw [e1]; exact n2⟩, hr.2.2.2⟩
    unfold hm_scrL mo_scrL
    rw [hr.1]
    rcases hrr with h1 | ⟨q, hq, h1⟩
    · rw [if_pos h1, if_pos h1]
      exact ih _ _ _ _ _ hR2
    · rw [h1, if_neg (pl_m2 (b := q) (by omega)).2, if_neg (pl_m2 (b := q) (by omega)).2]
      by_cases h3 : (13 : Int32) ≤ nI q
      · rw [if_pos h3, if_pos ((pl_13 q hq).mp h3)]
        exact ih _ _ _ _ _ hR2
      · rw [if_neg h3, if_neg (fun z => h3 ((pl_13 q hq).mpr z))]
        exact ih _ _ _ _ _ hR2
theorem pl_scr (hR : hm_Rel f h fm g k) (c : Int32) : (hm_scr f h c).1 = (mo_scr fm g k c).1 ∧ hm_Rel (hm_scr f h c).2.1 (hm_scr f h c).2.2 (mo_scr fm g k c).2.1 g (mo_scr fm g k c).2.2 := pl_scrL _ f fm h k 0 hR
theorem pl_hand (hR : hm_Rel f h fm g k) : h = k := by
  obtain ⟨a, ha, e1, e2⟩ := hR.2.1
  rw [e1, e2]
theorem pl_brkL (hR : hm_Rel f h fm g k) : ∀ (n i : Nat) (t : Int32), i + n = 16 → hm_brkL f n t (nI i) = mo_brkL fm g n t (nI i) := by
  intro n
  induction n with
  | zero => intro i t _; rfl
  | succ n ih =>
    intro i t hi
    unfold hm_brkL mo_brkL mo_read
    obtain ⟨a, ha, e1, e2⟩ := hR.1 i (by omega)
    rw [nI_clamp (show i < 2 ^ 31 by omega), e1, e2, if_neg (pl_isWord i (by omega)), nI_1, ih (i + 1) _ (by omega), ih (i + 1) _ (by omega)]
    rcases pl_word ha hR.2.2 with ⟨h2, h3⟩ | ⟨q, b0, hq, hb, h2, h3, h4, h5, h6⟩
    · rw [if_pos h2, if_pos h3]
    · rw [h2, h6, if_neg (pl_m2 (b := q) (by omega)).1, if_neg (pl_m2 hb).1]
theorem pl_brk (hR : hm_Rel f h fm g k) : hm_brk f = mo_brk fm g := pl_brkL hR 16 0 0 (by omega)
theorem pl_marL (hR : hm_Rel f h fm g k) : ∀ (n i : Nat) (t : Int32), i + n = 16 → hm_marL f n t (nI i) = mo_marL fm g n t (nI i) := by
  intro n
  induction n with
  | zero => intro i t _; rfl
  | succ n ih =>
    intro i t hi
    unfold hm_marL mo_marL mo_read
    obtain ⟨a, ha, e1, e2⟩ := hR.1 i (by omega)
    rw [nI_clamp (show i < 2 ^ 31 by omega), e1, e2, if_neg (pl_isWord i (by omega)), nI_1, ih (i + 1) _ (by omega), ih (i + 1) _ (by omega)]
    rcases pl_word ha hR.2.2 with ⟨h2, h3⟩ | ⟨q, b0, hq, hb, h2, h3, h4, h5, h6⟩
    · rw [h2, h3, if_pos (by decide), if_pos (by decide)]
    · have h7 := (pn_code2 b0 hb).2.2
      rw [h2, h6, if_neg (pl_m2 (b := q) (by omega)).2, if_neg (pl_m2 hb).2, nI_clamp (show b0 < 2 ^ 31 by omega), hR.2.2 b0 hb]
      have h8 := (pn_e_facts q hq).2.2.2
      by_cases hq3 : q = 13
      · have h9 := h8.mp hq3
        rw [if_pos (show (13 : Int32) ≤ nI q by rw [hq3]; decide), if_pos (by rw [h3, h9, Nat.xor_zero])]
      · have h9 : ¬ a = pn_cd b0 := by
          intro z
          apply hq3
          apply h8.mpr
          rw [h3] at z
          have z2 : a ^^^ (a ^^^ pn_e q) = a ^^^ a := by rw [← z]
          rw [← Nat.xor_assoc, Nat.xor_self, Nat.zero_xor] at z2
          exact z2
        rw [if_neg (show ¬ (13 : Int32) ≤ nI q from nI_ge (b := 13) (by omega) (by omega)), if_neg (fun z => h9 ((nI_eq (by omega) (by omega)).mp z))]
theorem pl_mar (hR : hm_Rel f h fm g k) : hm_mar f = mo_mar fm g := pl_marL hR 16 0 0 (by omega)
theorem pl_raw (hR : hm_Rel f h fm g k) (w : Int32) : hm_raw f w = hm_raw fm w := by
  unfold hm_raw
  by_cases h1 : hm_isWord w = 0
  · rw [if_pos h1, if_pos h1]
  · rw [if_neg h1, if_neg h1]
    obtain ⟨j, hj, -, e⟩ := pl_w h1
    obtain ⟨a, ha, e1, e2⟩ := hR.1 j hj
    rw [e, e1, e2]
theorem pl_dist (hR : hm_Rel f h fm g k) (w v : Int32) : hm_dist f w v = mo_dist fm g w v := by
  unfold hm_dist mo_dist
  by_cases h1 : hm_isWord w = 0
  · rw [if_pos h1, if_pos h1]
  rw [if_neg h1, if_neg h1]
  by_cases h2 : v < 0
  · rw [if_pos h2, if_pos h2]
  rw [if_neg h2, if_neg h2]
  by_cases h3 : v ≤ 255
  · rw [if_pos h3, if_pos h3]
    obtain ⟨i, hi, rfl, ei⟩ := pl_byte h2 h3
    obtain ⟨j, hj, -, e⟩ := pl_w h1
    obtain ⟨a, ha, e1, e2⟩ := hR.1 j hj
    have h4 := pn_code1 i hi
    have h5 := (pn_code2 i hi).2.2
    have h6 : a ^^^ pn_cd i < 8192 := Nat.xor_lt_two_pow (n := 13) ha h5
    rw [e, ei, e1, e2, h4.1, hR.2.2 i hi, pn_xor, pn_ones_eq (by omega), pn_ap (by omega) (by omega)]
  · rw [if_neg h3, if_neg h3]
theorem pl_near (hR : hm_Rel f h fm g k) (w : Int32) : hm_near f w = mo_near fm g w := by
  unfold hm_near mo_near
  by_cases h1 : hm_isWord w = 0
  · rw [if_pos h1, if_pos h1]
  · rw [if_neg h1, if_neg h1]
    obtain ⟨j, hj, -, e⟩ := pl_w h1
    obtain ⟨a, ha, e1, e2⟩ := hR.1 j hj
    rw [e, e1, e2]
    exact pn_near ha hR.2.2
theorem pl_mix (hR : hm_Rel f h fm g k) (w v : Int32) : (hm_mix f w v).1 = (mo_mix fm g w v).1 ∧ hm_Rel (hm_mix f w v).2 h (mo_mix fm g w v).2 g k := by
  unfold hm_mix mo_mix
  by_cases h1 : hm_isWord w = 0
  · rw [if_pos h1, if_pos h1]; exact ⟨rfl, hR⟩
  rw [if_neg h1, if_neg h1]
  by_cases h2 : hm_isWord v = 0
  · rw [if_pos h2, if_pos h2]; exact ⟨rfl, hR⟩
  rw [if_neg h2, if_neg h2, pl_read hR w, pl_read hR v]
  rcases pl_read_cases hR h1 with e1 | ⟨b, hb, e1⟩
  · rw [e1, if_pos rfl, if_pos (by decide)]; exact ⟨rfl, hR⟩
  rw [e1, if_neg (pl_m2 hb).1, if_neg (pl_m2 hb).2]
  rcases pl_read_cases hR h2 with e2 | ⟨c, hc, e2⟩
  · rw [e2, if_pos rfl, if_neg (by decide)]; exact ⟨rfl, hR⟩
  rw [e2, if_neg (pl_m2 hc).1, if_pos (nI_pos' (by omega))]
  have hx := pn_xlt hb hc
  have h5 := (pn_code2 _ hx).2.2
  rw [pn_xor, (pn_code1 _ hx).1, pn_sh h5, pk_andN (m := 255) (by omega) 8 (by decide), show (b ^^^ c) % 2 ^ 8 = b ^^^ c from Nat.mod_eq_of_lt hx, nI_clamp (show b ^^^ c < 2 ^ 31 by omega), hR.2.2 _ hx]
  exact ⟨rfl, pl_upd hR _ h5 rfl rfl⟩
end PLR
/-! the start -/
theorem pl_tabL : ∀ (n i : Nat) (g : Nat → Int32), i + n = 256 → (∀ j, j < i → g j = nI (pn_cd j)) → ∀ j, j < 256 → mo_tabL n g (nI i) j = nI (pn_cd j) := by
  intro n
  induction n with
  | zero => intro i g hi h j hj; exact h j (by omega)
  | succ n ih =>
    intro i g hi h j hj
    unfold mo_tabL
    rw [nI_clamp (show i < 2 ^ 31 by omega), nI_1, (pn_code1 i (by omega)).2.1]
    refine ih (i + 1) _ (by omega) (fun q hq => ?_) j hj
    by_cases e : q = i
    · subst e; rw [pk_us]
    · rw [pk_un e]; exact h q (by omega)
theorem pl_wrdL {g : Nat → Int32} (hg : g 0 = 0) : ∀ (n i : Nat) (f : Nat → Int32), i + n = 16 → (∀ j, f j = 0) → ∀ j, mo_wrdL g n f (nI i) j = 0 := by
  intro n
  induction n with
  | zero => intro i f _ h j; exact h j
  | succ n ih =>
    intro i f hi h j
    unfold mo_wrdL
    rw [nI_clamp (show i < 2 ^ 31 by omega), nI_1]
    refine ih (i + 1) _ (by omega) (fun q => ?_) j
    by_cases e : q = i
    · subst e; rw [pk_us]; exact hg
    · rw [pk_un e]; exact h q
theorem pl_init : hm_Rel (fun _ => 0) 0 (mo_wrdL (mo_tabL 256 (fun _ => 0) 0) 16 (fun _ => 0) 0) (mo_tabL 256 (fun _ => 0) 0) 0 := by
  have hg : ∀ j, j < 256 → mo_tabL 256 (fun _ => 0) 0 j = nI (pn_cd j) := pl_tabL 256 0 (fun _ => 0) (by omega) (fun j hj => by omega)
  refine ⟨fun j hj => ⟨0, by omega, rfl, ?_⟩, ⟨0, by omega, rfl, rfl⟩, hg⟩
  exact pl_wrdL (g := mo_tabL 256 (fun _ => 0) 0) ((hg 0 (by omega)).trans (by decide)) 16 0 (fun _ => 0) (by omega) (fun _ => rfl) j
end
section
/-! THE CLAIM OUT OF ONE WALK OF THE LAW'S BODY. Your part is whole_start (and what it stands on); all else here is the same for every law, but numbers. -/
def R_law : String := "ScrubbedCellsLaw"
def lw_P (b : Addr) (xs : List Int32) (args : Array Value) (s : State) : Prop := args = #[.ref b] ∧ s.IntsAt b xs ∧ xs.length ≤ 192 ∧ (Jvm.Cond.and given_1 narrow_1).before args s = true
def lw_Q (_ : Array Value) (s : State) (o : Outcome) (t : State) : Prop := o = .returned (some (.int 1)) ∧ Framed s o t [] 600000 7290000
def lw_Z (below : List Frame) (a : Array Value) (s : State) : State → Prop := fun t => ∃ o, t.status = .running ∧ Ended t below o ∧ lw_Q a s o t
/-- the law's own end, with 1 on the stack, nothing written that was there before, its room as the claim has it -/
theorem lw_ret {p : Program} {l : Launch} {e : Env} {s : State} {m : MethodId} {below : List Frame} {meth : Method} {c : Code} {b : Nat} (hx : p.tables.exec = Jvm.exec) (hb : c.code = code) (hr : meth.sig.returnType = ret) (hlocks : meth.locks = false) {pc : Nat} {H : Heap} {ls : Array Slot} (hdg : decode code pc = .ok (.ireturn, 1)) : W p l e room_1 s m #[Value.ref b] below meth c H [] 600000 7290000 (lw_Z below #[Value.ref b] s) (F0 m pc ls [.int 1]) := by
  intro T hT X
  obtain ⟨fs, hret, hrun, hended, hW, hframe⟩ := X.leave (v := some (.int 1)) (hlocks := hlocks) (fun h => by rw [hr] at h; cases h)
  have hmeth' : T.vm.method? m = some meth := X.method'
  refine ⟨T.setFrames fs, ?_, .returned (some (.int 1)), hrun, hended, rfl, ⟨_, rfl⟩, hW, hframe⟩
  jvm_step X.here [X.here.top, hx, hb, hdg, hmeth', hr, ret, narrow_b1]
  (try refine ⟨rfl, ?_⟩); (try refine ⟨rfl, ?_⟩)
  first | (intro acts; rw [hret _ acts rfl rfl rfl]) | rw [hret _ _ rfl rfl rfl]
  exact Steps.refl _
/-- what holds at the law's entry: the machine, the code, the tables' words (any of lw_tbl by 'hts w (by decide +kernel)'), the script of L ints xs at the cell b, what the Statement gives of the start (any of its parts by flat_of_before) -/
def lw_At (p : Program) (s : State) (m : MethodId) (meth : Method) (c : Code) (b L : Nat) (xs : Nat → Int32) : Prop :=
  p.tables.exec = Jvm.exec ∧ c.code = code ∧ meth.sig.returnType = ret ∧ c.maxLocals = 4 ∧ s.vm.findClass R_law = some m.cls ∧ (∀ w ∈ lw_tbl, w.before #[Value.ref b] s = true) ∧ va_X b L xs s s.heap ∧ b < s.heap.size ∧ meth.locks = false ∧ (Jvm.Cond.and given_1 narrow_1).before #[Value.ref b] s = true
theorem la_in1 {i L : Nat} (h : i + 3 ≤ L) (hL : L < 2 ^ 31) : vp_in (nI i + 1) L := by
  rw [nI_1]; exact vp_in_nI (by omega) hL
theorem la_in2 {i L : Nat} (h : i + 3 ≤ L) (hL : L < 2 ^ 31) : vp_in (nI i + 2) L := by
  rw [show nI i + 2 = nI (i + 2) from nI_add i 2]; exact vp_in_nI (by omega) hL
end
section
/-! the rules of the law's calls -/
set_option maxHeartbeats 4000000 in
theorem la_X0_write {p : Program} {l : Launch} {e : Env} {R : Room} {s : State} {m : MethodId} {args : Array Value} {below : List Frame} {meth : Method} {c : Code} {H : Heap} {locs : List Loc} {cells slots : Nat} {Q : State → Prop} {cc : ByteArray} {nL pc : Nat} {ls : Array Slot} {rest : List Value} {x1 x2 : Int32} {D : va_G} {x0 xw m0 mw mc : Nat} {dS dW dK : ClassId} {f fm g : Nat → Int32} {h k : Int32} {A : Nat → Prop} {H0 : Heap} (S : CallFix p m c cc nL s args lw_all R_law) (hR : 3 + 1 ≤ R.frames ∧ 8 + (3 + 11) + 69 ≤ R.locals) (hK : va_K D vwCl [(dS, .short), (dW, .int), (dK, .int)] s) (hP : va_P D vwCl [(x0, .inr (0, [.ref xw, .int (h)])), (xw, .inl (dS, 16, .inl (f))), (m0, .inr (1, [.ref mw, .ref mc, .int (k)])), (mw, .inl (dW, 16, .inl (fm))), (mc, .inl (dK, 256, .inl (g)))] H) (hD : va_D A [(x0, .inr (0, [.ref xw, .int (h)])), (xw, .inl (dS, 16, .inl (f))), (m0, .inr (1, [.ref mw, .ref mc, .int (k)])), (mw, .inl (dW, 16, .inl (fm))), (mc, .inl (dK, 256, .inl (g)))]) (hS : va_S A H0 H locs) (hA : ∀ q : Nat, H0.size ≤ q → A q) (hsize : ls.size = nL) (hW : (rest.map fun v => v.category).sum ≤ 8) (hdg : decode cc pc = .ok (.invokevirtual 13, 3)) (hf : cells ≤ R.cells ∧ slots ≤ R.slots) (kk : ∀ (H : Heap) (locs : List Loc), va_P D vwCl [(x0, .inr (0, [.ref xw, .int (h)])), (xw, .inl (dS, 16, .inl ((hm_write f x1 x2).2))), (m0, .inr (1, [.ref mw, .ref mc, .int (k)])), (mw, .inl (dW, 16, .inl (fm))), (mc, .inl (dK, 256, .inl (g)))] H → va_D A [(x0, .inr (0, [.ref xw, .int (h)])), (xw, .inl (dS, 16, .inl ((hm_write f x1 x2).2))), (m0, .inr (1, [.ref mw, .ref mc, .int (k)])), (mw, .inl (dW, 16, .inl (fm))), (mc, .inl (dK, 256, .inl (g)))] → va_S A H0 H locs → W p l e R s m args below meth c H locs cells slots Q (F0 m (pc + 3) ls (.int ((hm_write f x1 x2).1) :: rest))) : W p l e R s m args below meth c H locs cells slots Q (F0 m pc ls (.int x2 :: .int x1 :: .ref x0 :: rest)) := by
  have hPc := hP.sub (ws' := [(x0, .inr (0, [.ref xw, .int (h)])), (xw, .inl (dS, 16, .inl (f)))]) [0, 1] rfl
  have hDc := hD.sub (ws' := [(x0, .inr (0, [.ref xw, .int (h)])), (xw, .inl (dS, 16, .inl (f)))]) [0, 1] (by decide) rfl
  have hKc := hK.sub (tys' := [(dS, .short)]) [0] rfl
  have hF := va_free (wc := [(x0, .inr (0, [.ref xw, .int (h)])), (xw, .inl (dS, 16, .inl (f)))]) hD hS hA [0, 1] rfl
  refine va_calli (va_runV (As := [.int x1, .int x2]) (rest := rest) S (mt_X0_write l D x0 xw dS f h H.size x1 x2) (cwV 2 S.2.2.2.2 (lw_V q36 q37 q38 q18 q39) rfl rfl rfl (by decide +kernel) hR) ⟨fun a U g mk q => by obtain ⟨q0, q1, qP, qK, qD⟩ := q; exact ⟨q0, q1, qP, va_K.moved (u := U) (U := U.calling g mk a) (Vm.Alike.refl U.vm) qK, qD⟩, va_recv hKc hPc (ci := 0) (q0 := 0) rfl rfl, fun U hU hW => ⟨rfl, by rw [hU], by rw [hU]; exact hPc, va_K.moved hW.alike hKc, hDc.weaken (fun _ _ _ _ => trivial)⟩⟩ rfl rfl hsize rfl (lv_room hW) hdg hf) hS (fun q _ h => hF q h) hF (fun r u t H1 locs1 ht hvm hw hB hz hk hS1 => ?_)
  obtain ⟨hP1, hD1⟩ := hB
  rw [ht] at hP1
  rw [← hw] at kk
  obtain ⟨hP2, hD2⟩ := va_join (wr := [(m0, .inr (1, [.ref mw, .ref mc, .int (k)])), (mw, .inl (dW, 16, .inl (fm))), (mc, .inl (dK, 256, .inl (g)))]) (w1 := [(x0, .inr (0, [.ref xw, .int (h)])), (xw, .inl (dS, 16, .inl (u)))]) hP hD [0, 1] [2, 3, 4] rfl rfl (by decide) (by decide) hk hF hP1 hD1
  exact kk H1 locs1 (hP2.sub [3, 4, 0, 1, 2] rfl) (hD2.sub [3, 4, 0, 1, 2] (by decide) rfl) hS1
set_option maxHeartbeats 4000000 in
theorem la_X1_write {p : Program} {l : Launch} {e : Env} {R : Room} {s : State} {m : MethodId} {args : Array Value} {below : List Frame} {meth : Method} {c : Code} {H : Heap} {locs : List Loc} {cells slots : Nat} {Q : State → Prop} {cc : ByteArray} {nL pc : Nat} {ls : Array Slot} {rest : List Value} {x1 x2 : Int32} {D : va_G} {x0 xw m0 mw mc : Nat} {dS dW dK : ClassId} {f fm g : Nat → Int32} {h k : Int32} {A : Nat → Prop} {H0 : Heap} (S : CallFix p m c cc nL s args lw_all R_law) (hR : 1 + 1 ≤ R.frames ∧ 8 + (3 + 11) + 21 ≤ R.locals) (hK : va_K D vwCl [(dS, .short), (dW, .int), (dK, .int)] s) (hP : va_P D vwCl [(x0, .inr (0, [.ref xw, .int (h)])), (xw, .inl (dS, 16, .inl (f))), (m0, .inr (1, [.ref mw, .ref mc, .int (k)])), (mw, .inl (dW, 16, .inl (fm))), (mc, .inl (dK, 256, .inl (g)))] H) (hD : va_D A [(x0, .inr (0, [.ref xw, .int (h)])), (xw, .inl (dS, 16, .inl (f))), (m0, .inr (1, [.ref mw, .ref mc, .int (k)])), (mw, .inl (dW, 16, .inl (fm))), (mc, .inl (dK, 256, .inl (g)))]) (hS : va_S A H0 H locs) (hA : ∀ q : Nat, H0.size ≤ q → A q) (hsize : ls.size = nL) (hW : (rest.map fun v => v.category).sum ≤ 8) (hdg : decode cc pc = .ok (.invokevirtual 17, 3)) (hf : cells ≤ R.cells ∧ slots ≤ R.slots) (kk : ∀ (H : Heap) (locs : List Loc), va_P D vwCl [(x0, .inr (0, [.ref xw, .int (h)])), (xw, .inl (dS, 16, .inl (f))), (m0, .inr (1, [.ref mw, .ref mc, .int (k)])), (mw, .inl (dW, 16, .inl ((mo_write fm g x1 x2).2))), (mc, .inl (dK, 256, .inl (g)))] H → va_D A [(x0, .inr (0, [.ref xw, .int (h)])), (xw, .inl (dS, 16, .inl (f))), (m0, .inr (1, [.ref mw, .ref mc, .int (k)])), (mw, .inl (dW, 16, .inl ((mo_write fm g x1 x2).2))), (mc, .inl (dK, 256, .inl (g)))] → va_S A H0 H locs → W p l e R s m args below meth c H locs cells slots Q (F0 m (pc + 3) ls (.int ((mo_write fm g x1 x2).1) :: rest))) : W p l e R s m args below meth c H locs cells slots Q (F0 m pc ls (.int x2 :: .int x1 :: .ref m0 :: rest)) := by
  have hPc := hP.sub (ws' := [(m0, .inr (1, [.ref mw, .ref mc, .int (k)])), (mw, .inl (dW, 16, .inl (fm))), (mc, .inl (dK, 256, .inl (g)))]) [2, 3, 4] rfl
  have hDc := hD.sub (ws' := [(m0, .inr (1, [.ref mw, .ref mc, .int (k)])), (mw, .inl (dW, 16, .inl (fm))), (mc, .inl (dK, 256, .inl (g)))]) [2, 3, 4] (by decide) rfl
  have hKc := hK.sub (tys' := [(dW, .int), (dK, .int)]) [1, 2] rfl
  have hF := va_free (wc := [(m0, .inr (1, [.ref mw, .ref mc, .int (k)])), (mw, .inl (dW, 16, .inl (fm))), (mc, .inl (dK, 256, .inl (g)))]) hD hS hA [2, 3, 4] rfl
  refine va_calli (va_runV (As := [.int x1, .int x2]) (rest := rest) S (mt_X1_write l D m0 mw mc dW dK fm g k H.size x1 x2) (cwV 2 S.2.2.2.2 (lw_V q163 q164 q165 q19 q166) rfl rfl rfl (by decide +kernel) hR) ⟨fun a U g mk q => by obtain ⟨q0, q1, qP, qK, qD⟩ := q; exact ⟨q0, q1, qP, va_K.moved (u := U) (U := U.calling g mk a) (Vm.Alike.refl U.vm) qK, qD⟩, va_recv hKc hPc (ci := 1) (q0 := 0) rfl rfl, fun U hU hW => ⟨rfl, by rw [hU], by rw [hU]; exact hPc, va_K.moved hW.alike hKc, hDc.weaken (fun _ _ _ _ => trivial)⟩⟩ rfl rfl hsize rfl (lv_room hW) hdg hf) hS (fun q _ h => hF q h) hF (fun r u t H1 locs1 ht hvm hw hB hz hk hS1 => ?_)
  obtain ⟨hP1, hD1⟩ := hB
  rw [ht] at hP1
  rw [← hw] at kk
  obtain ⟨hP2, hD2⟩ := va_join (wr := [(x0, .inr (0, [.ref xw, .int (h)])), (xw, .inl (dS, 16, .inl (f)))]) (w1 := [(m0, .inr (1, [.ref mw, .ref mc, .int (k)])), (mw, .inl (dW, 16, .inl (u))), (mc, .inl (dK, 256, .inl (g)))]) hP hD [2, 3, 4] [0, 1] rfl rfl (by decide) (by decide) hk hF hP1 hD1
  exact kk H1 locs1 hP2 hD2 hS1
set_option maxHeartbeats 4000000 in
theorem la_X0_flip {p : Program} {l : Launch} {e : Env} {R : Room} {s : State} {m : MethodId} {args : Array Value} {below : List Frame} {meth : Method} {c : Code} {H : Heap} {locs : List Loc} {cells slots : Nat} {Q : State → Prop} {cc : ByteArray} {nL pc : Nat} {ls : Array Slot} {rest : List Value} {x1 x2 : Int32} {D : va_G} {x0 xw m0 mw mc : Nat} {dS dW dK : ClassId} {f fm g : Nat → Int32} {h k : Int32} {A : Nat → Prop} {H0 : Heap} (S : CallFix p m c cc nL s args lw_all R_law) (hR : 1 + 1 ≤ R.frames ∧ 8 + (3 + 11) + 21 ≤ R.locals) (hK : va_K D vwCl [(dS, .short), (dW, .int), (dK, .int)] s) (hP : va_P D vwCl [(x0, .inr (0, [.ref xw, .int (h)])), (xw, .inl (dS, 16, .inl (f))), (m0, .inr (1, [.ref mw, .ref mc, .int (k)])), (mw, .inl (dW, 16, .inl (fm))), (mc, .inl (dK, 256, .inl (g)))] H) (hD : va_D A [(x0, .inr (0, [.ref xw, .int (h)])), (xw, .inl (dS, 16, .inl (f))), (m0, .inr (1, [.ref mw, .ref mc, .int (k)])), (mw, .inl (dW, 16, .inl (fm))), (mc, .inl (dK, 256, .inl (g)))]) (hS : va_S A H0 H locs) (hA : ∀ q : Nat, H0.size ≤ q → A q) (hsize : ls.size = nL) (hW : (rest.map fun v => v.category).sum ≤ 8) (hdg : decode cc pc = .ok (.invokevirtual 18, 3)) (hf : cells ≤ R.cells ∧ slots ≤ R.slots) (kk : ∀ (H : Heap) (locs : List Loc), va_P D vwCl [(x0, .inr (0, [.ref xw, .int (h)])), (xw, .inl (dS, 16, .inl ((hm_flip f x1 x2).2))), (m0, .inr (1, [.ref mw, .ref mc, .int (k)])), (mw, .inl (dW, 16, .inl (fm))), (mc, .inl (dK, 256, .inl (g)))] H → va_D A [(x0, .inr (0, [.ref xw, .int (h)])), (xw, .inl (dS, 16, .inl ((hm_flip f x1 x2).2))), (m0, .inr (1, [.ref mw, .ref mc, .int (k)])), (mw, .inl (dW, 16, .inl (fm))), (mc, .inl (dK, 256, .inl (g)))] → va_S A H0 H locs → W p l e R s m args below meth c H locs cells slots Q (F0 m (pc + 3) ls (.int ((hm_flip f x1 x2).1) :: rest))) : W p l e R s m args below meth c H locs cells slots Q (F0 m pc ls (.int x2 :: .int x1 :: .ref x0 :: rest)) := by
  have hPc := hP.sub (ws' := [(x0, .inr (0, [.ref xw, .int (h)])), (xw, .inl (dS, 16, .inl (f)))]) [0, 1] rfl
  have hDc := hD.sub (ws' := [(x0, .inr (0, [.ref xw, .int (h)])), (xw, .inl (dS, 16, .inl (f)))]) [0, 1] (by decide) rfl
  have hKc := hK.sub (tys' := [(dS, .short)]) [0] rfl
  have hF := va_free (wc := [(x0, .inr (0, [.ref xw, .int (h)])), (xw, .inl (dS, 16, .inl (f)))]) hD hS hA [0, 1] rfl
  refine va_calli (va_runV (As := [.int x1, .int x2]) (rest := rest) S (mt_X0_flip l D x0 xw dS f h H.size x1 x2) (cwV 2 S.2.2.2.2 (lw_V q64 q65 q66 q18 q67) rfl rfl rfl (by decide +kernel) hR) ⟨fun a U g mk q => by obtain ⟨q0, q1, qP, qK, qD⟩ := q; exact ⟨q0, q1, qP, va_K.moved (u := U) (U := U.calling g mk a) (Vm.Alike.refl U.vm) qK, qD⟩, va_recv hKc hPc (ci := 0) (q0 := 0) rfl rfl, fun U hU hW => ⟨rfl, by rw [hU], by rw [hU]; exact hPc, va_K.moved hW.alike hKc, hDc.weaken (fun _ _ _ _ => trivial)⟩⟩ rfl rfl hsize rfl (lv_room hW) hdg hf) hS (fun q _ h => hF q h) hF (fun r u t H1 locs1 ht hvm hw hB hz hk hS1 => ?_)
  obtain ⟨hP1, hD1⟩ := hB
  rw [ht] at hP1
  rw [← hw] at kk
  obtain ⟨hP2, hD2⟩ := va_join (wr := [(m0, .inr (1, [.ref mw, .ref mc, .int (k)])), (mw, .inl (dW, 16, .inl (fm))), (mc, .inl (dK, 256, .inl (g)))]) (w1 := [(x0, .inr (0, [.ref xw, .int (h)])), (xw, .inl (dS, 16, .inl (u)))]) hP hD [0, 1] [2, 3, 4] rfl rfl (by decide) (by decide) hk hF hP1 hD1
  exact kk H1 locs1 (hP2.sub [3, 4, 0, 1, 2] rfl) (hD2.sub [3, 4, 0, 1, 2] (by decide) rfl) hS1
set_option maxHeartbeats 4000000 in
theorem la_X1_flip {p : Program} {l : Launch} {e : Env} {R : Room} {s : State} {m : MethodId} {args : Array Value} {below : List Frame} {meth : Method} {c : Code} {H : Heap} {locs : List Loc} {cells slots : Nat} {Q : State → Prop} {cc : ByteArray} {nL pc : Nat} {ls : Array Slot} {rest : List Value} {x1 x2 : Int32} {D : va_G} {x0 xw m0 mw mc : Nat} {dS dW dK : ClassId} {f fm g : Nat → Int32} {h k : Int32} {A : Nat → Prop} {H0 : Heap} (S : CallFix p m c cc nL s args lw_all R_law) (hR : 1 + 1 ≤ R.frames ∧ 8 + (3 + 11) + 21 ≤ R.locals) (hK : va_K D vwCl [(dS, .short), (dW, .int), (dK, .int)] s) (hP : va_P D vwCl [(x0, .inr (0, [.ref xw, .int (h)])), (xw, .inl (dS, 16, .inl (f))), (m0, .inr (1, [.ref mw, .ref mc, .int (k)])), (mw, .inl (dW, 16, .inl (fm))), (mc, .inl (dK, 256, .inl (g)))] H) (hD : va_D A [(x0, .inr (0, [.ref xw, .int (h)])), (xw, .inl (dS, 16, .inl (f))), (m0, .inr (1, [.ref mw, .ref mc, .int (k)])), (mw, .inl (dW, 16, .inl (fm))), (mc, .inl (dK, 256, .inl (g)))]) (hS : va_S A H0 H locs) (hA : ∀ q : Nat, H0.size ≤ q → A q) (hsize : ls.size = nL) (hW : (rest.map fun v => v.category).sum ≤ 8) (hdg : decode cc pc = .ok (.invokevirtual 21, 3)) (hf : cells ≤ R.cells ∧ slots ≤ R.slots) (kk : ∀ (H : Heap) (locs : List Loc), va_P D vwCl [(x0, .inr (0, [.ref xw, .int (h)])), (xw, .inl (dS, 16, .inl (f))), (m0, .inr (1, [.ref mw, .ref mc, .int (k)])), (mw, .inl (dW, 16, .inl ((mo_flip fm x1 x2).2))), (mc, .inl (dK, 256, .inl (g)))] H → va_D A [(x0, .inr (0, [.ref xw, .int (h)])), (xw, .inl (dS, 16, .inl (f))), (m0, .inr (1, [.ref mw, .ref mc, .int (k)])), (mw, .inl (dW, 16, .inl ((mo_flip fm x1 x2).2))), (mc, .inl (dK, 256, .inl (g)))] → va_S A H0 H locs → W p l e R s m args below meth c H locs cells slots Q (F0 m (pc + 3) ls (.int ((mo_flip fm x1 x2).1) :: rest))) : W p l e R s m args below meth c H locs cells slots Q (F0 m pc ls (.int x2 :: .int x1 :: .ref m0 :: rest)) := by
  have hPc := hP.sub (ws' := [(m0, .inr (1, [.ref mw, .ref mc, .int (k)])), (mw, .inl (dW, 16, .inl (fm))), (mc, .inl (dK, 256, .inl (g)))]) [2, 3, 4] rfl
  have hDc := hD.sub (ws' := [(m0, .inr (1, [.ref mw, .ref mc, .int (k)])), (mw, .inl (dW, 16, .inl (fm))), (mc, .inl (dK, 256, .inl (g)))]) [2, 3, 4] (by decide) rfl
  have hKc := hK.sub (tys' := [(dW, .int), (dK, .int)]) [1, 2] rfl
  have hF := va_free (wc := [(m0, .inr (1, [.ref mw, .ref mc, .int (k)])), (mw, .inl (dW, 16, .inl (fm))), (mc, .inl (dK, 256, .inl (g)))]) hD hS hA [2, 3, 4] rfl
  refine va_calli (va_runV (As := [.int x1, .int x2]) (rest := rest) S (mt_X1_flip l D m0 mw mc dW dK fm g k H.size x1 x2) (cwV 2 S.2.2.2.2 (lw_V q171 q172 q173 q19 q174) rfl rfl rfl (by decide +kernel) hR) ⟨fun a U g mk q => by obtain ⟨q0, q1, qP, qK, qD⟩ := q; exact ⟨q0, q1, qP, va_K.moved (u := U) (U := U.calling g mk a) (Vm.Alike.refl U.vm) qK, qD⟩, va_recv hKc hPc (ci := 1) (q0 := 0) rfl rfl, fun U hU hW => ⟨rfl, by rw [hU], by rw [hU]; exact hPc, va_K.moved hW.alike hKc, hDc.weaken (fun _ _ _ _ => trivial)⟩⟩ rfl rfl hsize rfl (lv_room hW) hdg hf) hS (fun q _ h => hF q h) hF (fun r u t H1 locs1 ht hvm hw hB hz hk hS1 => ?_)
  obtain ⟨hP1, hD1⟩ := hB
  rw [ht] at hP1
  rw [← hw] at kk
  obtain ⟨hP2, hD2⟩ := va_join (wr := [(x0, .inr (0, [.ref xw, .int (h)])), (xw, .inl (dS, 16, .inl (f)))]) (w1 := [(m0, .inr (1, [.ref mw, .ref mc, .int (k)])), (mw, .inl (dW, 16, .inl (u))), (mc, .inl (dK, 256, .inl (g)))]) hP hD [2, 3, 4] [0, 1] rfl rfl (by decide) (by decide) hk hF hP1 hD1
  exact kk H1 locs1 hP2 hD2 hS1
set_option maxHeartbeats 4000000 in
theorem la_X0_read {p : Program} {l : Launch} {e : Env} {R : Room} {s : State} {m : MethodId} {args : Array Value} {below : List Frame} {meth : Method} {c : Code} {H : Heap} {locs : List Loc} {cells slots : Nat} {Q : State → Prop} {cc : ByteArray} {nL pc : Nat} {ls : Array Slot} {rest : List Value} {x1 : Int32} {D : va_G} {x0 xw m0 mw mc : Nat} {dS dW dK : ClassId} {f fm g : Nat → Int32} {h k : Int32} (S : CallFix p m c cc nL s args lw_all R_law) (hR : 3 + 1 ≤ R.frames ∧ 8 + (4 + 11) + 68 ≤ R.locals) (hK : va_K D vwCl [(dS, .short), (dW, .int), (dK, .int)] s) (hP : va_P D vwCl [(x0, .inr (0, [.ref xw, .int (h)])), (xw, .inl (dS, 16, .inl (f))), (m0, .inr (1, [.ref mw, .ref mc, .int (k)])), (mw, .inl (dW, 16, .inl (fm))), (mc, .inl (dK, 256, .inl (g)))] H) (hsize : ls.size = nL) (hW : (rest.map fun v => v.category).sum ≤ 8) (hdg : decode cc pc = .ok (.invokevirtual 22, 3)) (hf : cells ≤ R.cells ∧ slots ≤ R.slots) (kk : W p l e R s m args below meth c H locs cells slots Q (F0 m (pc + 3) ls (.int (hm_read f x1) :: rest))) : W p l e R s m args below meth c H locs cells slots Q (F0 m pc ls (.int x1 :: .ref x0 :: rest)) :=
  hm_call (As := [.int x1]) S (mt_X0_read l D x0 xw dS f h x1) (cwV 1 S.2.2.2.2 (lw_V q68 q69 q70 q18 q71) rfl rfl rfl (by decide +kernel) hR) (hm_preW (ci := 0) (hK.sub [0] rfl) (hP.sub [0, 1] rfl) rfl rfl) rfl hsize rfl hW hdg hf kk
set_option maxHeartbeats 4000000 in
theorem la_X1_read {p : Program} {l : Launch} {e : Env} {R : Room} {s : State} {m : MethodId} {args : Array Value} {below : List Frame} {meth : Method} {c : Code} {H : Heap} {locs : List Loc} {cells slots : Nat} {Q : State → Prop} {cc : ByteArray} {nL pc : Nat} {ls : Array Slot} {rest : List Value} {x1 : Int32} {D : va_G} {x0 xw m0 mw mc : Nat} {dS dW dK : ClassId} {f fm g : Nat → Int32} {h k : Int32} (S : CallFix p m c cc nL s args lw_all R_law) (hR : 2 + 1 ≤ R.frames ∧ 8 + (3 + 11) + 46 ≤ R.locals) (hK : va_K D vwCl [(dS, .short), (dW, .int), (dK, .int)] s) (hP : va_P D vwCl [(x0, .inr (0, [.ref xw, .int (h)])), (xw, .inl (dS, 16, .inl (f))), (m0, .inr (1, [.ref mw, .ref mc, .int (k)])), (mw, .inl (dW, 16, .inl (fm))), (mc, .inl (dK, 256, .inl (g)))] H) (hsize : ls.size = nL) (hW : (rest.map fun v => v.category).sum ≤ 8) (hdg : decode cc pc = .ok (.invokevirtual 26, 3)) (hf : cells ≤ R.cells ∧ slots ≤ R.slots) (kk : W p l e R s m args below meth c H locs cells slots Q (F0 m (pc + 3) ls (.int (mo_read fm g x1) :: rest))) : W p l e R s m args below meth c H locs cells slots Q (F0 m pc ls (.int x1 :: .ref m0 :: rest)) :=
  hm_call (As := [.int x1]) S (mt_X1_read l D m0 mw mc dW dK fm g k x1) (cwV 1 S.2.2.2.2 (lw_V q175 q176 q177 q19 q178) rfl rfl rfl (by decide +kernel) hR) (hm_preW (ci := 1) (hK.sub [1, 2] rfl) (hP.sub [2, 3, 4] rfl) rfl rfl) rfl hsize rfl hW hdg hf kk
set_option maxHeartbeats 4000000 in
theorem la_X0_repair {p : Program} {l : Launch} {e : Env} {R : Room} {s : State} {m : MethodId} {args : Array Value} {below : List Frame} {meth : Method} {c : Code} {H : Heap} {locs : List Loc} {cells slots : Nat} {Q : State → Prop} {cc : ByteArray} {nL pc : Nat} {ls : Array Slot} {rest : List Value} {x1 : Int32} {D : va_G} {x0 xw m0 mw mc : Nat} {dS dW dK : ClassId} {f fm g : Nat → Int32} {h k : Int32} {A : Nat → Prop} {H0 : Heap} (S : CallFix p m c cc nL s args lw_all R_law) (hR : 3 + 1 ≤ R.frames ∧ 8 + (3 + 11) + 68 ≤ R.locals) (hK : va_K D vwCl [(dS, .short), (dW, .int), (dK, .int)] s) (hP : va_P D vwCl [(x0, .inr (0, [.ref xw, .int (h)])), (xw, .inl (dS, 16, .inl (f))), (m0, .inr (1, [.ref mw, .ref mc, .int (k)])), (mw, .inl (dW, 16, .inl (fm))), (mc, .inl (dK, 256, .inl (g)))] H) (hD : va_D A [(x0, .inr (0, [.ref xw, .int (h)])), (xw, .inl (dS, 16, .inl (f))), (m0, .inr (1, [.ref mw, .ref mc, .int (k)])), (mw, .inl (dW, 16, .inl (fm))), (mc, .inl (dK, 256, .inl (g)))]) (hS : va_S A H0 H locs) (hA : ∀ q : Nat, H0.size ≤ q → A q) (hsize : ls.size = nL) (hW : (rest.map fun v => v.category).sum ≤ 8) (hdg : decode cc pc = .ok (.invokevirtual 27, 3)) (hf : cells ≤ R.cells ∧ slots ≤ R.slots) (kk : ∀ (H : Heap) (locs : List Loc), va_P D vwCl [(x0, .inr (0, [.ref xw, .int (h)])), (xw, .inl (dS, 16, .inl ((hm_rep f x1).2))), (m0, .inr (1, [.ref mw, .ref mc, .int (k)])), (mw, .inl (dW, 16, .inl (fm))), (mc, .inl (dK, 256, .inl (g)))] H → va_D A [(x0, .inr (0, [.ref xw, .int (h)])), (xw, .inl (dS, 16, .inl ((hm_rep f x1).2))), (m0, .inr (1, [.ref mw, .ref mc, .int (k)])), (mw, .inl (dW, 16, .inl (fm))), (mc, .inl (dK, 256, .inl (g)))] → va_S A H0 H locs → W p l e R s m args below meth c H locs cells slots Q (F0 m (pc + 3) ls (.int ((hm_rep f x1).1) :: rest))) : W p l e R s m args below meth c H locs cells slots Q (F0 m pc ls (.int x1 :: .ref x0 :: rest)) := by
  have hPc := hP.sub (ws' := [(x0, .inr (0, [.ref xw, .int (h)])), (xw, .inl (dS, 16, .inl (f)))]) [0, 1] rfl
  have hDc := hD.sub (ws' := [(x0, .inr (0, [.ref xw, .int (h)])), (xw, .inl (dS, 16, .inl (f)))]) [0, 1] (by decide) rfl
  have hKc := hK.sub (tys' := [(dS, .short)]) [0] rfl
  have hF := va_free (wc := [(x0, .inr (0, [.ref xw, .int (h)])), (xw, .inl (dS, 16, .inl (f)))]) hD hS hA [0, 1] rfl
  refine va_calli (va_runV (As := [.int x1]) (rest := rest) S (mt_X0_repair l D x0 xw dS f h H.size x1) (cwV 1 S.2.2.2.2 (lw_V q84 q85 q86 q18 q87) rfl rfl rfl (by decide +kernel) hR) ⟨fun a U g mk q => by obtain ⟨q0, q1, qP, qK, qD⟩ := q; exact ⟨q0, q1, qP, va_K.moved (u := U) (U := U.calling g mk a) (Vm.Alike.refl U.vm) qK, qD⟩, va_recv hKc hPc (ci := 0) (q0 := 0) rfl rfl, fun U hU hW => ⟨rfl, by rw [hU], by rw [hU]; exact hPc, va_K.moved hW.alike hKc, hDc.weaken (fun _ _ _ _ => trivial)⟩⟩ rfl rfl hsize rfl (lv_room hW) hdg hf) hS (fun q _ h => hF q h) hF (fun r u t H1 locs1 ht hvm hw hB hz hk hS1 => ?_)
  obtain ⟨hP1, hD1⟩ := hB
  rw [ht] at hP1
  rw [← hw] at kk
  obtain ⟨hP2, hD2⟩ := va_join (wr := [(m0, .inr (1, [.ref mw, .ref mc, .int (k)])), (mw, .inl (dW, 16, .inl (fm))), (mc, .inl (dK, 256, .inl (g)))]) (w1 := [(x0, .inr (0, [.ref xw, .int (h)])), (xw, .inl (dS, 16, .inl (u)))]) hP hD [0, 1] [2, 3, 4] rfl rfl (by decide) (by decide) hk hF hP1 hD1
  exact kk H1 locs1 (hP2.sub [3, 4, 0, 1, 2] rfl) (hD2.sub [3, 4, 0, 1, 2] (by decide) rfl) hS1
set_option maxHeartbeats 4000000 in
theorem la_X1_repair {p : Program} {l : Launch} {e : Env} {R : Room} {s : State} {m : MethodId} {args : Array Value} {below : List Frame} {meth : Method} {c : Code} {H : Heap} {locs : List Loc} {cells slots : Nat} {Q : State → Prop} {cc : ByteArray} {nL pc : Nat} {ls : Array Slot} {rest : List Value} {x1 : Int32} {D : va_G} {x0 xw m0 mw mc : Nat} {dS dW dK : ClassId} {f fm g : Nat → Int32} {h k : Int32} {A : Nat → Prop} {H0 : Heap} (S : CallFix p m c cc nL s args lw_all R_law) (hR : 3 + 1 ≤ R.frames ∧ 8 + (5 + 11) + 68 ≤ R.locals) (hK : va_K D vwCl [(dS, .short), (dW, .int), (dK, .int)] s) (hP : va_P D vwCl [(x0, .inr (0, [.ref xw, .int (h)])), (xw, .inl (dS, 16, .inl (f))), (m0, .inr (1, [.ref mw, .ref mc, .int (k)])), (mw, .inl (dW, 16, .inl (fm))), (mc, .inl (dK, 256, .inl (g)))] H) (hD : va_D A [(x0, .inr (0, [.ref xw, .int (h)])), (xw, .inl (dS, 16, .inl (f))), (m0, .inr (1, [.ref mw, .ref mc, .int (k)])), (mw, .inl (dW, 16, .inl (fm))), (mc, .inl (dK, 256, .inl (g)))]) (hS : va_S A H0 H locs) (hA : ∀ q : Nat, H0.size ≤ q → A q) (hsize : ls.size = nL) (hW : (rest.map fun v => v.category).sum ≤ 8) (hdg : decode cc pc = .ok (.invokevirtual 30, 3)) (hf : cells ≤ R.cells ∧ slots ≤ R.slots) (kk : ∀ (H : Heap) (locs : List Loc), va_P D vwCl [(x0, .inr (0, [.ref xw, .int (h)])), (xw, .inl (dS, 16, .inl (f))), (m0, .inr (1, [.ref mw, .ref mc, .int (k)])), (mw, .inl (dW, 16, .inl ((mo_rep fm g x1).2))), (mc, .inl (dK, 256, .inl (g)))] H → va_D A [(x0, .inr (0, [.ref xw, .int (h)])), (xw, .inl (dS, 16, .inl (f))), (m0, .inr (1, [.ref mw, .ref mc, .int (k)])), (mw, .inl (dW, 16, .inl ((mo_rep fm g x1).2))), (mc, .inl (dK, 256, .inl (g)))] → va_S A H0 H locs → W p l e R s m args below meth c H locs cells slots Q (F0 m (pc + 3) ls (.int ((mo_rep fm g x1).1) :: rest))) : W p l e R s m args below meth c H locs cells slots Q (F0 m pc ls (.int x1 :: .ref m0 :: rest)) := by
  have hPc := hP.sub (ws' := [(m0, .inr (1, [.ref mw, .ref mc, .int (k)])), (mw, .inl (dW, 16, .inl (fm))), (mc, .inl (dK, 256, .inl (g)))]) [2, 3, 4] rfl
  have hDc := hD.sub (ws' := [(m0, .inr (1, [.ref mw, .ref mc, .int (k)])), (mw, .inl (dW, 16, .inl (fm))), (mc, .inl (dK, 256, .inl (g)))]) [2, 3, 4] (by decide) rfl
  have hKc := hK.sub (tys' := [(dW, .int), (dK, .int)]) [1, 2] rfl
  have hF := va_free (wc := [(m0, .inr (1, [.ref mw, .ref mc, .int (k)])), (mw, .inl (dW, 16, .inl (fm))), (mc, .inl (dK, 256, .inl (g)))]) hD hS hA [2, 3, 4] rfl
  refine va_calli (va_runV (As := [.int x1]) (rest := rest) S (mt_X1_repair l D m0 mw mc dW dK fm g k H.size x1) (cwV 1 S.2.2.2.2 (lw_V q183 q184 q185 q19 q186) rfl rfl rfl (by decide +kernel) hR) ⟨fun a U g mk q => by obtain ⟨q0, q1, qP, qK, qD⟩ := q; exact ⟨q0, q1, qP, va_K.moved (u := U) (U := U.calling g mk a) (Vm.Alike.refl U.vm) qK, qD⟩, va_recv hKc hPc (ci := 1) (q0 := 0) rfl rfl, fun U hU hW => ⟨rfl, by rw [hU], by rw [hU]; exact hPc, va_K.moved hW.alike hKc, hDc.weaken (fun _ _ _ _ => trivial)⟩⟩ rfl rfl hsize rfl (lv_room hW) hdg hf) hS (fun q _ h => hF q h) hF (fun r u t H1 locs1 ht hvm hw hB hz hk hS1 => ?_)
  obtain ⟨hP1, hD1⟩ := hB
  rw [ht] at hP1
  rw [← hw] at kk
  obtain ⟨hP2, hD2⟩ := va_join (wr := [(x0, .inr (0, [.ref xw, .int (h)])), (xw, .inl (dS, 16, .inl (f)))]) (w1 := [(m0, .inr (1, [.ref mw, .ref mc, .int (k)])), (mw, .inl (dW, 16, .inl (u))), (mc, .inl (dK, 256, .inl (g)))]) hP hD [2, 3, 4] [0, 1] rfl rfl (by decide) (by decide) hk hF hP1 hD1
  exact kk H1 locs1 hP2 hD2 hS1
set_option maxHeartbeats 4000000 in
theorem la_X0_scrub {p : Program} {l : Launch} {e : Env} {R : Room} {s : State} {m : MethodId} {args : Array Value} {below : List Frame} {meth : Method} {c : Code} {H : Heap} {locs : List Loc} {cells slots : Nat} {Q : State → Prop} {cc : ByteArray} {nL pc : Nat} {ls : Array Slot} {rest : List Value} {x1 : Int32} {D : va_G} {x0 xw m0 mw mc : Nat} {dS dW dK : ClassId} {f fm g : Nat → Int32} {h k : Int32} {A : Nat → Prop} {H0 : Heap} (S : CallFix p m c cc nL s args lw_all R_law) (hR : 4 + 1 ≤ R.frames ∧ 8 + (6 + 11) + 90 ≤ R.locals) (hK : va_K D vwCl [(dS, .short), (dW, .int), (dK, .int)] s) (hP : va_P D vwCl [(x0, .inr (0, [.ref xw, .int (h)])), (xw, .inl (dS, 16, .inl (f))), (m0, .inr (1, [.ref mw, .ref mc, .int (k)])), (mw, .inl (dW, 16, .inl (fm))), (mc, .inl (dK, 256, .inl (g)))] H) (hD : va_D A [(x0, .inr (0, [.ref xw, .int (h)])), (xw, .inl (dS, 16, .inl (f))), (m0, .inr (1, [.ref mw, .ref mc, .int (k)])), (mw, .inl (dW, 16, .inl (fm))), (mc, .inl (dK, 256, .inl (g)))]) (hS : va_S A H0 H locs) (hA : ∀ q : Nat, H0.size ≤ q → A q) (hsize : ls.size = nL) (hW : (rest.map fun v => v.category).sum ≤ 8) (hdg : decode cc pc = .ok (.invokevirtual 31, 3)) (hf : cells ≤ R.cells ∧ slots ≤ R.slots) (kk : ∀ (H : Heap) (locs : List Loc), va_P D vwCl [(x0, .inr (0, [.ref xw, .int ((hm_scr f h x1).2.2)])), (xw, .inl (dS, 16, .inl ((hm_scr f h x1).2.1))), (m0, .inr (1, [.ref mw, .ref mc, .int (k)])), (mw, .inl (dW, 16, .inl (fm))), (mc, .inl (dK, 256, .inl (g)))] H → va_D A [(x0, .inr (0, [.ref xw, .int ((hm_scr f h x1).2.2)])), (xw, .inl (dS, 16, .inl ((hm_scr f h x1).2.1))), (m0, .inr (1, [.ref mw, .ref mc, .int (k)])), (mw, .inl (dW, 16, .inl (fm))), (mc, .inl (dK, 256, .inl (g)))] → va_S A H0 H locs → W p l e R s m args below meth c H locs cells slots Q (F0 m (pc + 3) ls (.int ((hm_scr f h x1).1) :: rest))) : W p l e R s m args below meth c H locs cells slots Q (F0 m pc ls (.int x1 :: .ref x0 :: rest)) := by
  have hPc := hP.sub (ws' := [(x0, .inr (0, [.ref xw, .int (h)])), (xw, .inl (dS, 16, .inl (f)))]) [0, 1] rfl
  have hDc := hD.sub (ws' := [(x0, .inr (0, [.ref xw, .int (h)])), (xw, .inl (dS, 16, .inl (f)))]) [0, 1] (by decide) rfl
  have hKc := hK.sub (tys' := [(dS, .short)]) [0] rfl
  have hF := va_free (wc := [(x0, .inr (0, [.ref xw, .int (h)])), (xw, .inl (dS, 16, .inl (f)))]) hD hS hA [0, 1] rfl
  refine va_calli (va_runV (As := [.int x1]) (rest := rest) S (mt_X0_scrub l D x0 xw dS f h H.size x1) (cwV 1 S.2.2.2.2 (lw_V q88 q89 q90 q18 q91) rfl rfl rfl (by decide +kernel) hR) ⟨fun a U g mk q => by obtain ⟨q0, q1, qP, qK, qD⟩ := q; exact ⟨q0, q1, qP, va_K.moved (u := U) (U := U.calling g mk a) (Vm.Alike.refl U.vm) qK, qD⟩, va_recv hKc hPc (ci := 0) (q0 := 0) rfl rfl, fun U hU hW => ⟨rfl, by rw [hU], by rw [hU]; exact hPc, va_K.moved hW.alike hKc, hDc.weaken (fun _ _ _ _ => trivial)⟩⟩ rfl rfl hsize rfl (lv_room hW) hdg hf) hS (fun q _ h => hF q h) hF (fun r u t H1 locs1 ht hvm hw hB hz hk hS1 => ?_)
  obtain ⟨hP1, hD1⟩ := hB
  rw [ht] at hP1
  rw [← hw] at kk
  obtain ⟨hP2, hD2⟩ := va_join (wr := [(m0, .inr (1, [.ref mw, .ref mc, .int (k)])), (mw, .inl (dW, 16, .inl (fm))), (mc, .inl (dK, 256, .inl (g)))]) (w1 := [(x0, .inr (0, [.ref xw, .int (u.2)])), (xw, .inl (dS, 16, .inl (u.1)))]) hP hD [0, 1] [2, 3, 4] rfl rfl (by decide) (by decide) hk hF hP1 hD1
  exact kk H1 locs1 (hP2.sub [3, 4, 0, 1, 2] rfl) (hD2.sub [3, 4, 0, 1, 2] (by decide) rfl) hS1
set_option maxHeartbeats 4000000 in
theorem la_X1_scrub {p : Program} {l : Launch} {e : Env} {R : Room} {s : State} {m : MethodId} {args : Array Value} {below : List Frame} {meth : Method} {c : Code} {H : Heap} {locs : List Loc} {cells slots : Nat} {Q : State → Prop} {cc : ByteArray} {nL pc : Nat} {ls : Array Slot} {rest : List Value} {x1 : Int32} {D : va_G} {x0 xw m0 mw mc : Nat} {dS dW dK : ClassId} {f fm g : Nat → Int32} {h k : Int32} {A : Nat → Prop} {H0 : Heap} (S : CallFix p m c cc nL s args lw_all R_law) (hR : 4 + 1 ≤ R.frames ∧ 8 + (6 + 11) + 92 ≤ R.locals) (hK : va_K D vwCl [(dS, .short), (dW, .int), (dK, .int)] s) (hP : va_P D vwCl [(x0, .inr (0, [.ref xw, .int (h)])), (xw, .inl (dS, 16, .inl (f))), (m0, .inr (1, [.ref mw, .ref mc, .int (k)])), (mw, .inl (dW, 16, .inl (fm))), (mc, .inl (dK, 256, .inl (g)))] H) (hD : va_D A [(x0, .inr (0, [.ref xw, .int (h)])), (xw, .inl (dS, 16, .inl (f))), (m0, .inr (1, [.ref mw, .ref mc, .int (k)])), (mw, .inl (dW, 16, .inl (fm))), (mc, .inl (dK, 256, .inl (g)))]) (hS : va_S A H0 H locs) (hA : ∀ q : Nat, H0.size ≤ q → A q) (hsize : ls.size = nL) (hW : (rest.map fun v => v.category).sum ≤ 8) (hdg : decode cc pc = .ok (.invokevirtual 34, 3)) (hf : cells ≤ R.cells ∧ slots ≤ R.slots) (kk : ∀ (H : Heap) (locs : List Loc), va_P D vwCl [(x0, .inr (0, [.ref xw, .int (h)])), (xw, .inl (dS, 16, .inl (f))), (m0, .inr (1, [.ref mw, .ref mc, .int ((mo_scr fm g k x1).2.2)])), (mw, .inl (dW, 16, .inl ((mo_scr fm g k x1).2.1))), (mc, .inl (dK, 256, .inl (g)))] H → va_D A [(x0, .inr (0, [.ref xw, .int (h)])), (xw, .inl (dS, 16, .inl (f))), (m0, .inr (1, [.ref mw, .ref mc, .int ((mo_scr fm g k x1).2.2)])), (mw, .inl (dW, 16, .inl ((mo_scr fm g k x1).2.1))), (mc, .inl (dK, 256, .inl (g)))] → va_S A H0 H locs → W p l e R s m args below meth c H locs cells slots Q (F0 m (pc + 3) ls (.int ((mo_scr fm g k x1).1) :: rest))) : W p l e R s m args below meth c H locs cells slots Q (F0 m pc ls (.int x1 :: .ref m0 :: rest)) := by
  have hPc := hP.sub (ws' := [(m0, .inr (1, [.ref mw, .ref mc, .int (k)])), (mw, .inl (dW, 16, .inl (fm))), (mc, .inl (dK, 256, .inl (g)))]) [2, 3, 4] rfl
  have hDc := hD.sub (ws' := [(m0, .inr (1, [.ref mw, .ref mc, .int (k)])), (mw, .inl (dW, 16, .inl (fm))), (mc, .inl (dK, 256, .inl (g)))]) [2, 3, 4] (by decide) rfl
  have hKc := hK.sub (tys' := [(dW, .int), (dK, .int)]) [1, 2] rfl
  have hF := va_free (wc := [(m0, .inr (1, [.ref mw, .ref mc, .int (k)])), (mw, .inl (dW, 16, .inl (fm))), (mc, .inl (dK, 256, .inl (g)))]) hD hS hA [2, 3, 4] rfl
  refine va_calli (va_runV (As := [.int x1]) (rest := rest) S (mt_X1_scrub l D m0 mw mc dW dK fm g k H.size x1) (cwV 1 S.2.2.2.2 (lw_V q188 q189 q190 q19 q191) rfl rfl rfl (by decide +kernel) hR) ⟨fun a U g mk q => by obtain ⟨q0, q1, qP, qK, qD⟩ := q; exact ⟨q0, q1, qP, va_K.moved (u := U) (U := U.calling g mk a) (Vm.Alike.refl U.vm) qK, qD⟩, va_recv hKc hPc (ci := 1) (q0 := 0) rfl rfl, fun U hU hW => ⟨rfl, by rw [hU], by rw [hU]; exact hPc, va_K.moved hW.alike hKc, hDc.weaken (fun _ _ _ _ => trivial)⟩⟩ rfl rfl hsize rfl (lv_room hW) hdg hf) hS (fun q _ h => hF q h) hF (fun r u t H1 locs1 ht hvm hw hB hz hk hS1 => ?_)
  obtain ⟨hP1, hD1⟩ := hB
  rw [ht] at hP1
  rw [← hw] at kk
  obtain ⟨hP2, hD2⟩ := va_join (wr := [(x0, .inr (0, [.ref xw, .int (h)])), (xw, .inl (dS, 16, .inl (f)))]) (w1 := [(m0, .inr (1, [.ref mw, .ref mc, .int (u.2)])), (mw, .inl (dW, 16, .inl (u.1))), (mc, .inl (dK, 256, .inl (g)))]) hP hD [2, 3, 4] [0, 1] rfl rfl (by decide) (by decide) hk hF hP1 hD1
  exact kk H1 locs1 hP2 hD2 hS1
set_option maxHeartbeats 4000000 in
theorem la_X0_hand {p : Program} {l : Launch} {e : Env} {R : Room} {s : State} {m : MethodId} {args : Array Value} {below : List Frame} {meth : Method} {c : Code} {H : Heap} {locs : List Loc} {cells slots : Nat} {Q : State → Prop} {cc : ByteArray} {nL pc : Nat} {ls : Array Slot} {rest : List Value} {D : va_G} {x0 xw m0 mw mc : Nat} {dS dW dK : ClassId} {f fm g : Nat → Int32} {h k : Int32} (S : CallFix p m c cc nL s args lw_all R_law) (hR : 0 + 1 ≤ R.frames ∧ 8 + (1 + 11) + 0 ≤ R.locals) (hK : va_K D vwCl [(dS, .short), (dW, .int), (dK, .int)] s) (hP : va_P D vwCl [(x0, .inr (0, [.ref xw, .int (h)])), (xw, .inl (dS, 16, .inl (f))), (m0, .inr (1, [.ref mw, .ref mc, .int (k)])), (mw, .inl (dW, 16, .inl (fm))), (mc, .inl (dK, 256, .inl (g)))] H) (hsize : ls.size = nL) (hW : (rest.map fun v => v.category).sum ≤ 8) (hdg : decode cc pc = .ok (.invokevirtual 35, 3)) (hf : cells ≤ R.cells ∧ slots ≤ R.slots) (kk : W p l e R s m args below meth c H locs cells slots Q (F0 m (pc + 3) ls (.int (h) :: rest))) : W p l e R s m args below meth c H locs cells slots Q (F0 m pc ls (.ref x0 :: rest)) :=
  hm_call (As := []) S (mt_X0_hand l D x0 xw dS f h ) (cwV 0 S.2.2.2.2 (lw_V q93 q94 q95 q18 q96) rfl rfl rfl (by decide +kernel) hR) (hm_preW (ci := 0) (hK.sub [0] rfl) (hP.sub [0, 1] rfl) rfl rfl) rfl hsize rfl hW hdg hf kk
set_option maxHeartbeats 4000000 in
theorem la_X1_hand {p : Program} {l : Launch} {e : Env} {R : Room} {s : State} {m : MethodId} {args : Array Value} {below : List Frame} {meth : Method} {c : Code} {H : Heap} {locs : List Loc} {cells slots : Nat} {Q : State → Prop} {cc : ByteArray} {nL pc : Nat} {ls : Array Slot} {rest : List Value} {D : va_G} {x0 xw m0 mw mc : Nat} {dS dW dK : ClassId} {f fm g : Nat → Int32} {h k : Int32} (S : CallFix p m c cc nL s args lw_all R_law) (hR : 0 + 1 ≤ R.frames ∧ 8 + (1 + 11) + 0 ≤ R.locals) (hK : va_K D vwCl [(dS, .short), (dW, .int), (dK, .int)] s) (hP : va_P D vwCl [(x0, .inr (0, [.ref xw, .int (h)])), (xw, .inl (dS, 16, .inl (f))), (m0, .inr (1, [.ref mw, .ref mc, .int (k)])), (mw, .inl (dW, 16, .inl (fm))), (mc, .inl (dK, 256, .inl (g)))] H) (hsize : ls.size = nL) (hW : (rest.map fun v => v.category).sum ≤ 8) (hdg : decode cc pc = .ok (.invokevirtual 39, 3)) (hf : cells ≤ R.cells ∧ slots ≤ R.slots) (kk : W p l e R s m args below meth c H locs cells slots Q (F0 m (pc + 3) ls (.int (k) :: rest))) : W p l e R s m args below meth c H locs cells slots Q (F0 m pc ls (.ref m0 :: rest)) :=
  hm_call (As := []) S (mt_X1_hand l D m0 mw mc dW dK fm g k ) (cwV 0 S.2.2.2.2 (lw_V q193 q194 q195 q19 q196) rfl rfl rfl (by decide +kernel) hR) (hm_preW (ci := 1) (hK.sub [1, 2] rfl) (hP.sub [2, 3, 4] rfl) rfl rfl) rfl hsize rfl hW hdg hf kk
set_option maxHeartbeats 4000000 in
theorem la_X0_broken {p : Program} {l : Launch} {e : Env} {R : Room} {s : State} {m : MethodId} {args : Array Value} {below : List Frame} {meth : Method} {c : Code} {H : Heap} {locs : List Loc} {cells slots : Nat} {Q : State → Prop} {cc : ByteArray} {nL pc : Nat} {ls : Array Slot} {rest : List Value} {D : va_G} {x0 xw m0 mw mc : Nat} {dS dW dK : ClassId} {f fm g : Nat → Int32} {h k : Int32} (S : CallFix p m c cc nL s args lw_all R_law) (hR : 3 + 1 ≤ R.frames ∧ 8 + (3 + 11) + 68 ≤ R.locals) (hK : va_K D vwCl [(dS, .short), (dW, .int), (dK, .int)] s) (hP : va_P D vwCl [(x0, .inr (0, [.ref xw, .int (h)])), (xw, .inl (dS, 16, .inl (f))), (m0, .inr (1, [.ref mw, .ref mc, .int (k)])), (mw, .inl (dW, 16, .inl (fm))), (mc, .inl (dK, 256, .inl (g)))] H) (hsize : ls.size = nL) (hW : (rest.map fun v => v.category).sum ≤ 8) (hdg : decode cc pc = .ok (.invokevirtual 40, 3)) (hf : cells ≤ R.cells ∧ slots ≤ R.slots) (kk : W p l e R s m args below meth c H locs cells slots Q (F0 m (pc + 3) ls (.int (hm_brk f) :: rest))) : W p l e R s m args below meth c H locs cells slots Q (F0 m pc ls (.ref x0 :: rest)) :=
  hm_call (As := []) S (mt_X0_broken l D x0 xw dS f h ) (cwV 0 S.2.2.2.2 (lw_V q97 q98 q99 q18 q100) rfl rfl rfl (by decide +kernel) hR) (hm_preW (ci := 0) (hK.sub [0] rfl) (hP.sub [0, 1] rfl) rfl rfl) rfl hsize rfl hW hdg hf kk
set_option maxHeartbeats 4000000 in
theorem la_X1_broken {p : Program} {l : Launch} {e : Env} {R : Room} {s : State} {m : MethodId} {args : Array Value} {below : List Frame} {meth : Method} {c : Code} {H : Heap} {locs : List Loc} {cells slots : Nat} {Q : State → Prop} {cc : ByteArray} {nL pc : Nat} {ls : Array Slot} {rest : List Value} {D : va_G} {x0 xw m0 mw mc : Nat} {dS dW dK : ClassId} {f fm g : Nat → Int32} {h k : Int32} (S : CallFix p m c cc nL s args lw_all R_law) (hR : 3 + 1 ≤ R.frames ∧ 8 + (3 + 11) + 68 ≤ R.locals) (hK : va_K D vwCl [(dS, .short), (dW, .int), (dK, .int)] s) (hP : va_P D vwCl [(x0, .inr (0, [.ref xw, .int (h)])), (xw, .inl (dS, 16, .inl (f))), (m0, .inr (1, [.ref mw, .ref mc, .int (k)])), (mw, .inl (dW, 16, .inl (fm))), (mc, .inl (dK, 256, .inl (g)))] H) (hsize : ls.size = nL) (hW : (rest.map fun v => v.category).sum ≤ 8) (hdg : decode cc pc = .ok (.invokevirtual 43, 3)) (hf : cells ≤ R.cells ∧ slots ≤ R.slots) (kk : W p l e R s m args below meth c H locs cells slots Q (F0 m (pc + 3) ls (.int (mo_brk fm g) :: rest))) : W p l e R s m args below meth c H locs cells slots Q (F0 m pc ls (.ref m0 :: rest)) :=
  hm_call (As := []) S (mt_X1_broken l D m0 mw mc dW dK fm g k ) (cwV 0 S.2.2.2.2 (lw_V q197 q198 q199 q19 q200) rfl rfl rfl (by decide +kernel) hR) (hm_preW (ci := 1) (hK.sub [1, 2] rfl) (hP.sub [2, 3, 4] rfl) rfl rfl) rfl hsize rfl hW hdg hf kk
set_option maxHeartbeats 4000000 in
theorem la_X0_marred {p : Program} {l : Launch} {e : Env} {R : Room} {s : State} {m : MethodId} {args : Array Value} {below : List Frame} {meth : Method} {c : Code} {H : Heap} {locs : List Loc} {cells slots : Nat} {Q : State → Prop} {cc : ByteArray} {nL pc : Nat} {ls : Array Slot} {rest : List Value} {D : va_G} {x0 xw m0 mw mc : Nat} {dS dW dK : ClassId} {f fm g : Nat → Int32} {h k : Int32} (S : CallFix p m c cc nL s args lw_all R_law) (hR : 3 + 1 ≤ R.frames ∧ 8 + (4 + 11) + 68 ≤ R.locals) (hK : va_K D vwCl [(dS, .short), (dW, .int), (dK, .int)] s) (hP : va_P D vwCl [(x0, .inr (0, [.ref xw, .int (h)])), (xw, .inl (dS, 16, .inl (f))), (m0, .inr (1, [.ref mw, .ref mc, .int (k)])), (mw, .inl (dW, 16, .inl (fm))), (mc, .inl (dK, 256, .inl (g)))] H) (hsize : ls.size = nL) (hW : (rest.map fun v => v.category).sum ≤ 8) (hdg : decode cc pc = .ok (.invokevirtual 44, 3)) (hf : cells ≤ R.cells ∧ slots ≤ R.slots) (kk : W p l e R s m args below meth c H locs cells slots Q (F0 m (pc + 3) ls (.int (hm_mar f) :: rest))) : W p l e R s m args below meth c H locs cells slots Q (F0 m pc ls (.ref x0 :: rest)) :=
  hm_call (As := []) S (mt_X0_marred l D x0 xw dS f h ) (cwV 0 S.2.2.2.2 (lw_V q101 q102 q103 q18 q104) rfl rfl rfl (by decide +kernel) hR) (hm_preW (ci := 0) (hK.sub [0] rfl) (hP.sub [0, 1] rfl) rfl rfl) rfl hsize rfl hW hdg hf kk
set_option maxHeartbeats 4000000 in
theorem la_X1_marred {p : Program} {l : Launch} {e : Env} {R : Room} {s : State} {m : MethodId} {args : Array Value} {below : List Frame} {meth : Method} {c : Code} {H : Heap} {locs : List Loc} {cells slots : Nat} {Q : State → Prop} {cc : ByteArray} {nL pc : Nat} {ls : Array Slot} {rest : List Value} {D : va_G} {x0 xw m0 mw mc : Nat} {dS dW dK : ClassId} {f fm g : Nat → Int32} {h k : Int32} (S : CallFix p m c cc nL s args lw_all R_law) (hR : 3 + 1 ≤ R.frames ∧ 8 + (4 + 11) + 68 ≤ R.locals) (hK : va_K D vwCl [(dS, .short), (dW, .int), (dK, .int)] s) (hP : va_P D vwCl [(x0, .inr (0, [.ref xw, .int (h)])), (xw, .inl (dS, 16, .inl (f))), (m0, .inr (1, [.ref mw, .ref mc, .int (k)])), (mw, .inl (dW, 16, .inl (fm))), (mc, .inl (dK, 256, .inl (g)))] H) (hsize : ls.size = nL) (hW : (rest.map fun v => v.category).sum ≤ 8) (hdg : decode cc pc = .ok (.invokevirtual 47, 3)) (hf : cells ≤ R.cells ∧ slots ≤ R.slots) (kk : W p l e R s m args below meth c H locs cells slots Q (F0 m (pc + 3) ls (.int (mo_mar fm g) :: rest))) : W p l e R s m args below meth c H locs cells slots Q (F0 m pc ls (.ref m0 :: rest)) :=
  hm_call (As := []) S (mt_X1_marred l D m0 mw mc dW dK fm g k ) (cwV 0 S.2.2.2.2 (lw_V q201 q202 q203 q19 q204) rfl rfl rfl (by decide +kernel) hR) (hm_preW (ci := 1) (hK.sub [1, 2] rfl) (hP.sub [2, 3, 4] rfl) rfl rfl) rfl hsize rfl hW hdg hf kk
set_option maxHeartbeats 4000000 in
theorem la_X0_raw {p : Program} {l : Launch} {e : Env} {R : Room} {s : State} {m : MethodId} {args : Array Value} {below : List Frame} {meth : Method} {c : Code} {H : Heap} {locs : List Loc} {cells slots : Nat} {Q : State → Prop} {cc : ByteArray} {nL pc : Nat} {ls : Array Slot} {rest : List Value} {x1 : Int32} {D : va_G} {x0 xw m0 mw mc : Nat} {dS dW dK : ClassId} {f fm g : Nat → Int32} {h k : Int32} (S : CallFix p m c cc nL s args lw_all R_law) (hR : 1 + 1 ≤ R.frames ∧ 8 + (2 + 11) + 21 ≤ R.locals) (hK : va_K D vwCl [(dS, .short), (dW, .int), (dK, .int)] s) (hP : va_P D vwCl [(x0, .inr (0, [.ref xw, .int (h)])), (xw, .inl (dS, 16, .inl (f))), (m0, .inr (1, [.ref mw, .ref mc, .int (k)])), (mw, .inl (dW, 16, .inl (fm))), (mc, .inl (dK, 256, .inl (g)))] H) (hsize : ls.size = nL) (hW : (rest.map fun v => v.category).sum ≤ 8) (hdg : decode cc pc = .ok (.invokevirtual 48, 3)) (hf : cells ≤ R.cells ∧ slots ≤ R.slots) (kk : W p l e R s m args below meth c H locs cells slots Q (F0 m (pc + 3) ls (.int (hm_raw f x1) :: rest))) : W p l e R s m args below meth c H locs cells slots Q (F0 m pc ls (.int x1 :: .ref x0 :: rest)) :=
  hm_call (As := [.int x1]) S (mt_X0_raw l D x0 xw dS f h x1) (cwV 1 S.2.2.2.2 (lw_V q105 q106 q107 q18 q108) rfl rfl rfl (by decide +kernel) hR) (hm_preW (ci := 0) (hK.sub [0] rfl) (hP.sub [0, 1] rfl) rfl rfl) rfl hsize rfl hW hdg hf kk
set_option maxHeartbeats 4000000 in
theorem la_X1_raw {p : Program} {l : Launch} {e : Env} {R : Room} {s : State} {m : MethodId} {args : Array Value} {below : List Frame} {meth : Method} {c : Code} {H : Heap} {locs : List Loc} {cells slots : Nat} {Q : State → Prop} {cc : ByteArray} {nL pc : Nat} {ls : Array Slot} {rest : List Value} {x1 : Int32} {D : va_G} {x0 xw m0 mw mc : Nat} {dS dW dK : ClassId} {f fm g : Nat → Int32} {h k : Int32} (S : CallFix p m c cc nL s args lw_all R_law) (hR : 1 + 1 ≤ R.frames ∧ 8 + (2 + 11) + 21 ≤ R.locals) (hK : va_K D vwCl [(dS, .short), (dW, .int), (dK, .int)] s) (hP : va_P D vwCl [(x0, .inr (0, [.ref xw, .int (h)])), (xw, .inl (dS, 16, .inl (f))), (m0, .inr (1, [.ref mw, .ref mc, .int (k)])), (mw, .inl (dW, 16, .inl (fm))), (mc, .inl (dK, 256, .inl (g)))] H) (hsize : ls.size = nL) (hW : (rest.map fun v => v.category).sum ≤ 8) (hdg : decode cc pc = .ok (.invokevirtual 51, 3)) (hf : cells ≤ R.cells ∧ slots ≤ R.slots) (kk : W p l e R s m args below meth c H locs cells slots Q (F0 m (pc + 3) ls (.int (hm_raw fm x1) :: rest))) : W p l e R s m args below meth c H locs cells slots Q (F0 m pc ls (.int x1 :: .ref m0 :: rest)) :=
  hm_call (As := [.int x1]) S (mt_X1_raw l D m0 mw mc dW dK fm g k x1) (cwV 1 S.2.2.2.2 (lw_V q205 q206 q207 q19 q208) rfl rfl rfl (by decide +kernel) hR) (hm_preW (ci := 1) (hK.sub [1, 2] rfl) (hP.sub [2, 3, 4] rfl) rfl rfl) rfl hsize rfl hW hdg hf kk
set_option maxHeartbeats 4000000 in
theorem la_X0_distance {p : Program} {l : Launch} {e : Env} {R : Room} {s : State} {m : MethodId} {args : Array Value} {below : List Frame} {meth : Method} {c : Code} {H : Heap} {locs : List Loc} {cells slots : Nat} {Q : State → Prop} {cc : ByteArray} {nL pc : Nat} {ls : Array Slot} {rest : List Value} {x1 x2 : Int32} {D : va_G} {x0 xw m0 mw mc : Nat} {dS dW dK : ClassId} {f fm g : Nat → Int32} {h k : Int32} (S : CallFix p m c cc nL s args lw_all R_law) (hR : 3 + 1 ≤ R.frames ∧ 8 + (4 + 11) + 69 ≤ R.locals) (hK : va_K D vwCl [(dS, .short), (dW, .int), (dK, .int)] s) (hP : va_P D vwCl [(x0, .inr (0, [.ref xw, .int (h)])), (xw, .inl (dS, 16, .inl (f))), (m0, .inr (1, [.ref mw, .ref mc, .int (k)])), (mw, .inl (dW, 16, .inl (fm))), (mc, .inl (dK, 256, .inl (g)))] H) (hsize : ls.size = nL) (hW : (rest.map fun v => v.category).sum ≤ 8) (hdg : decode cc pc = .ok (.invokevirtual 52, 3)) (hf : cells ≤ R.cells ∧ slots ≤ R.slots) (kk : W p l e R s m args below meth c H locs cells slots Q (F0 m (pc + 3) ls (.int (hm_dist f x1 x2) :: rest))) : W p l e R s m args below meth c H locs cells slots Q (F0 m pc ls (.int x2 :: .int x1 :: .ref x0 :: rest)) :=
  hm_call (As := [.int x1, .int x2]) S (mt_X0_distance l D x0 xw dS f h x1 x2) (cwV 2 S.2.2.2.2 (lw_V q109 q110 q111 q18 q112) rfl rfl rfl (by decide +kernel) hR) (hm_preW (ci := 0) (hK.sub [0] rfl) (hP.sub [0, 1] rfl) rfl rfl) rfl hsize rfl hW hdg hf kk
set_option maxHeartbeats 4000000 in
theorem la_X1_distance {p : Program} {l : Launch} {e : Env} {R : Room} {s : State} {m : MethodId} {args : Array Value} {below : List Frame} {meth : Method} {c : Code} {H : Heap} {locs : List Loc} {cells slots : Nat} {Q : State → Prop} {cc : ByteArray} {nL pc : Nat} {ls : Array Slot} {rest : List Value} {x1 x2 : Int32} {D : va_G} {x0 xw m0 mw mc : Nat} {dS dW dK : ClassId} {f fm g : Nat → Int32} {h k : Int32} (S : CallFix p m c cc nL s args lw_all R_law) (hR : 2 + 1 ≤ R.frames ∧ 8 + (3 + 11) + 46 ≤ R.locals) (hK : va_K D vwCl [(dS, .short), (dW, .int), (dK, .int)] s) (hP : va_P D vwCl [(x0, .inr (0, [.ref xw, .int (h)])), (xw, .inl (dS, 16, .inl (f))), (m0, .inr (1, [.ref mw, .ref mc, .int (k)])), (mw, .inl (dW, 16, .inl (fm))), (mc, .inl (dK, 256, .inl (g)))] H) (hsize : ls.size = nL) (hW : (rest.map fun v => v.category).sum ≤ 8) (hdg : decode cc pc = .ok (.invokevirtual 55, 3)) (hf : cells ≤ R.cells ∧ slots ≤ R.slots) (kk : W p l e R s m args below meth c H locs cells slots Q (F0 m (pc + 3) ls (.int (mo_dist fm g x1 x2) :: rest))) : W p l e R s m args below meth c H locs cells slots Q (F0 m pc ls (.int x2 :: .int x1 :: .ref m0 :: rest)) :=
  hm_call (As := [.int x1, .int x2]) S (mt_X1_distance l D m0 mw mc dW dK fm g k x1 x2) (cwV 2 S.2.2.2.2 (lw_V q209 q210 q211 q19 q212) rfl rfl rfl (by decide +kernel) hR) (hm_preW (ci := 1) (hK.sub [1, 2] rfl) (hP.sub [2, 3, 4] rfl) rfl rfl) rfl hsize rfl hW hdg hf kk
set_option maxHeartbeats 4000000 in
theorem la_X0_nearest {p : Program} {l : Launch} {e : Env} {R : Room} {s : State} {m : MethodId} {args : Array Value} {below : List Frame} {meth : Method} {c : Code} {H : Heap} {locs : List Loc} {cells slots : Nat} {Q : State → Prop} {cc : ByteArray} {nL pc : Nat} {ls : Array Slot} {rest : List Value} {x1 : Int32} {D : va_G} {x0 xw m0 mw mc : Nat} {dS dW dK : ClassId} {f fm g : Nat → Int32} {h k : Int32} (S : CallFix p m c cc nL s args lw_all R_law) (hR : 3 + 1 ≤ R.frames ∧ 8 + (5 + 11) + 68 ≤ R.locals) (hK : va_K D vwCl [(dS, .short), (dW, .int), (dK, .int)] s) (hP : va_P D vwCl [(x0, .inr (0, [.ref xw, .int (h)])), (xw, .inl (dS, 16, .inl (f))), (m0, .inr (1, [.ref mw, .ref mc, .int (k)])), (mw, .inl (dW, 16, .inl (fm))), (mc, .inl (dK, 256, .inl (g)))] H) (hsize : ls.size = nL) (hW : (rest.map fun v => v.category).sum ≤ 8) (hdg : decode cc pc = .ok (.invokevirtual 56, 3)) (hf : cells ≤ R.cells ∧ slots ≤ R.slots) (kk : W p l e R s m args below meth c H locs cells slots Q (F0 m (pc + 3) ls (.int (hm_near f x1) :: rest))) : W p l e R s m args below meth c H locs cells slots Q (F0 m pc ls (.int x1 :: .ref x0 :: rest)) :=
  hm_call (As := [.int x1]) S (mt_X0_nearest l D x0 xw dS f h x1) (cwV 1 S.2.2.2.2 (lw_V q113 q114 q115 q18 q116) rfl rfl rfl (by decide +kernel) hR) (hm_preW (ci := 0) (hK.sub [0] rfl) (hP.sub [0, 1] rfl) rfl rfl) rfl hsize rfl hW hdg hf kk
set_option maxHeartbeats 4000000 in
theorem la_X1_nearest {p : Program} {l : Launch} {e : Env} {R : Room} {s : State} {m : MethodId} {args : Array Value} {below : List Frame} {meth : Method} {c : Code} {H : Heap} {locs : List Loc} {cells slots : Nat} {Q : State → Prop} {cc : ByteArray} {nL pc : Nat} {ls : Array Slot} {rest : List Value} {x1 : Int32} {D : va_G} {x0 xw m0 mw mc : Nat} {dS dW dK : ClassId} {f fm g : Nat → Int32} {h k : Int32} (S : CallFix p m c cc nL s args lw_all R_law) (hR : 2 + 1 ≤ R.frames ∧ 8 + (6 + 11) + 46 ≤ R.locals) (hK : va_K D vwCl [(dS, .short), (dW, .int), (dK, .int)] s) (hP : va_P D vwCl [(x0, .inr (0, [.ref xw, .int (h)])), (xw, .inl (dS, 16, .inl (f))), (m0, .inr (1, [.ref mw, .ref mc, .int (k)])), (mw, .inl (dW, 16, .inl (fm))), (mc, .inl (dK, 256, .inl (g)))] H) (hsize : ls.size = nL) (hW : (rest.map fun v => v.category).sum ≤ 8) (hdg : decode cc pc = .ok (.invokevirtual 59, 3)) (hf : cells ≤ R.cells ∧ slots ≤ R.slots) (kk : W p l e R s m args below meth c H locs cells slots Q (F0 m (pc + 3) ls (.int (mo_near fm g x1) :: rest))) : W p l e R s m args below meth c H locs cells slots Q (F0 m pc ls (.int x1 :: .ref m0 :: rest)) :=
  hm_call (As := [.int x1]) S (mt_X1_nearest l D m0 mw mc dW dK fm g k x1) (cwV 1 S.2.2.2.2 (lw_V q213 q214 q215 q19 q216) rfl rfl rfl (by decide +kernel) hR) (hm_preW (ci := 1) (hK.sub [1, 2] rfl) (hP.sub [2, 3, 4] rfl) rfl rfl) rfl hsize rfl hW hdg hf kk
set_option maxHeartbeats 4000000 in
theorem la_X0_mix {p : Program} {l : Launch} {e : Env} {R : Room} {s : State} {m : MethodId} {args : Array Value} {below : List Frame} {meth : Method} {c : Code} {H : Heap} {locs : List Loc} {cells slots : Nat} {Q : State → Prop} {cc : ByteArray} {nL pc : Nat} {ls : Array Slot} {rest : List Value} {x1 x2 : Int32} {D : va_G} {x0 xw m0 mw mc : Nat} {dS dW dK : ClassId} {f fm g : Nat → Int32} {h k : Int32} {A : Nat → Prop} {H0 : Heap} (S : CallFix p m c cc nL s args lw_all R_law) (hR : 4 + 1 ≤ R.frames ∧ 8 + (6 + 11) + 91 ≤ R.locals) (hK : va_K D vwCl [(dS, .short), (dW, .int), (dK, .int)] s) (hP : va_P D vwCl [(x0, .inr (0, [.ref xw, .int (h)])), (xw, .inl (dS, 16, .inl (f))), (m0, .inr (1, [.ref mw, .ref mc, .int (k)])), (mw, .inl (dW, 16, .inl (fm))), (mc, .inl (dK, 256, .inl (g)))] H) (hD : va_D A [(x0, .inr (0, [.ref xw, .int (h)])), (xw, .inl (dS, 16, .inl (f))), (m0, .inr (1, [.ref mw, .ref mc, .int (k)])), (mw, .inl (dW, 16, .inl (fm))), (mc, .inl (dK, 256, .inl (g)))]) (hS : va_S A H0 H locs) (hA : ∀ q : Nat, H0.size ≤ q → A q) (hsize : ls.size = nL) (hW : (rest.map fun v => v.category).sum ≤ 8) (hdg : decode cc pc = .ok (.invokevirtual 60, 3)) (hf : cells ≤ R.cells ∧ slots ≤ R.slots) (kk : ∀ (H : Heap) (locs : List Loc), va_P D vwCl [(x0, .inr (0, [.ref xw, .int (h)])), (xw, .inl (dS, 16, .inl ((hm_mix f x1 x2).2))), (m0, .inr (1, [.ref mw, .ref mc, .int (k)])), (mw, .inl (dW, 16, .inl (fm))), (mc, .inl (dK, 256, .inl (g)))] H → va_D A [(x0, .inr (0, [.ref xw, .int (h)])), (xw, .inl (dS, 16, .inl ((hm_mix f x1 x2).2))), (m0, .inr (1, [.ref mw, .ref mc, .int (k)])), (mw, .inl (dW, 16, .inl (fm))), (mc, .inl (dK, 256, .inl (g)))] → va_S A H0 H locs → W p l e R s m args below meth c H locs cells slots Q (F0 m (pc + 3) ls (.int ((hm_mix f x1 x2).1) :: rest))) : W p l e R s m args below meth c H locs cells slots Q (F0 m pc ls (.int x2 :: .int x1 :: .ref x0 :: rest)) := by
  have hPc := hP.sub (ws' := [(x0, .inr (0, [.ref xw, .int (h)])), (xw, .inl (dS, 16, .inl (f)))]) [0, 1] rfl
  have hDc := hD.sub (ws' := [(x0, .inr (0, [.ref xw, .int (h)])), (xw, .inl (dS, 16, .inl (f)))]) [0, 1] (by decide) rfl
  have hKc := hK.sub (tys' := [(dS, .short)]) [0] rfl
  have hF := va_free (wc := [(x0, .inr (0, [.ref xw, .int (h)])), (xw, .inl (dS, 16, .inl (f)))]) hD hS hA [0, 1] rfl
  refine va_calli (va_runV (As := [.int x1, .int x2]) (rest := rest) S (mt_X0_mix l D x0 xw dS f h H.size x1 x2) (cwV 2 S.2.2.2.2 (lw_V q125 q126 q127 q18 q128) rfl rfl rfl (by decide +kernel) hR) ⟨fun a U g mk q => by obtain ⟨q0, q1, qP, qK, qD⟩ := q; exact ⟨q0, q1, qP, va_K.moved (u := U) (U := U.calling g mk a) (Vm.Alike.refl U.vm) qK, qD⟩, va_recv hKc hPc (ci := 0) (q0 := 0) rfl rfl, fun U hU hW => ⟨rfl, by rw [hU], by rw [hU]; exact hPc, va_K.moved hW.alike hKc, hDc.weaken (fun _ _ _ _ => trivial)⟩⟩ rfl rfl hsize rfl (lv_room hW) hdg hf) hS (fun q _ h => hF q h) hF (fun r u t H1 locs1 ht hvm hw hB hz hk hS1 => ?_)
  obtain ⟨hP1, hD1⟩ := hB
  rw [ht] at hP1
  rw [← hw] at kk
  obtain ⟨hP2, hD2⟩ := va_join (wr := [(m0, .inr (1, [.ref mw, .ref mc, .int (k)])), (mw, .inl (dW, 16, .inl (fm))), (mc, .inl (dK, 256, .inl (g)))]) (w1 := [(x0, .inr (0, [.ref xw, .int (h)])), (xw, .inl (dS, 16, .inl (u)))]) hP hD [0, 1] [2, 3, 4] rfl rfl (by decide) (by decide) hk hF hP1 hD1
  exact kk H1 locs1 (hP2.sub [3, 4, 0, 1, 2] rfl) (hD2.sub [3, 4, 0, 1, 2] (by decide) rfl) hS1
set_option maxHeartbeats 4000000 in
theorem la_X1_mix {p : Program} {l : Launch} {e : Env} {R : Room} {s : State} {m : MethodId} {args : Array Value} {below : List Frame} {meth : Method} {c : Code} {H : Heap} {locs : List Loc} {cells slots : Nat} {Q : State → Prop} {cc : ByteArray} {nL pc : Nat} {ls : Array Slot} {rest : List Value} {x1 x2 : Int32} {D : va_G} {x0 xw m0 mw mc : Nat} {dS dW dK : ClassId} {f fm g : Nat → Int32} {h k : Int32} {A : Nat → Prop} {H0 : Heap} (S : CallFix p m c cc nL s args lw_all R_law) (hR : 3 + 1 ≤ R.frames ∧ 8 + (5 + 11) + 68 ≤ R.locals) (hK : va_K D vwCl [(dS, .short), (dW, .int), (dK, .int)] s) (hP : va_P D vwCl [(x0, .inr (0, [.ref xw, .int (h)])), (xw, .inl (dS, 16, .inl (f))), (m0, .inr (1, [.ref mw, .ref mc, .int (k)])), (mw, .inl (dW, 16, .inl (fm))), (mc, .inl (dK, 256, .inl (g)))] H) (hD : va_D A [(x0, .inr (0, [.ref xw, .int (h)])), (xw, .inl (dS, 16, .inl (f))), (m0, .inr (1, [.ref mw, .ref mc, .int (k)])), (mw, .inl (dW, 16, .inl (fm))), (mc, .inl (dK, 256, .inl (g)))]) (hS : va_S A H0 H locs) (hA : ∀ q : Nat, H0.size ≤ q → A q) (hsize : ls.size = nL) (hW : (rest.map fun v => v.category).sum ≤ 8) (hdg : decode cc pc = .ok (.invokevirtual 63, 3)) (hf : cells ≤ R.cells ∧ slots ≤ R.slots) (kk : ∀ (H : Heap) (locs : List Loc), va_P D vwCl [(x0, .inr (0, [.ref xw, .int (h)])), (xw, .inl (dS, 16, .inl (f))), (m0, .inr (1, [.ref mw, .ref mc, .int (k)])), (mw, .inl (dW, 16, .inl ((mo_mix fm g x1 x2).2))), (mc, .inl (dK, 256, .inl (g)))] H → va_D A [(x0, .inr (0, [.ref xw, .int (h)])), (xw, .inl (dS, 16, .inl (f))), (m0, .inr (1, [.ref mw, .ref mc, .int (k)])), (mw, .inl (dW, 16, .inl ((mo_mix fm g x1 x2).2))), (mc, .inl (dK, 256, .inl (g)))] → va_S A H0 H locs → W p l e R s m args below meth c H locs cells slots Q (F0 m (pc + 3) ls (.int ((mo_mix fm g x1 x2).1) :: rest))) : W p l e R s m args below meth c H locs cells slots Q (F0 m pc ls (.int x2 :: .int x1 :: .ref m0 :: rest)) := by
  have hPc := hP.sub (ws' := [(m0, .inr (1, [.ref mw, .ref mc, .int (k)])), (mw, .inl (dW, 16, .inl (fm))), (mc, .inl (dK, 256, .inl (g)))]) [2, 3, 4] rfl
  have hDc := hD.sub (ws' := [(m0, .inr (1, [.ref mw, .ref mc, .int (k)])), (mw, .inl (dW, 16, .inl (fm))), (mc, .inl (dK, 256, .inl (g)))]) [2, 3, 4] (by decide) rfl
  have hKc := hK.sub (tys' := [(dW, .int), (dK, .int)]) [1, 2] rfl
  have hF := va_free (wc := [(m0, .inr (1, [.ref mw, .ref mc, .int (k)])), (mw, .inl (dW, 16, .inl (fm))), (mc, .inl (dK, 256, .inl (g)))]) hD hS hA [2, 3, 4] rfl
  refine va_calli (va_runV (As := [.int x1, .int x2]) (rest := rest) S (mt_X1_mix l D m0 mw mc dW dK fm g k H.size x1 x2) (cwV 2 S.2.2.2.2 (lw_V q217 q218 q219 q19 q220) rfl rfl rfl (by decide +kernel) hR) ⟨fun a U g mk q => by obtain ⟨q0, q1, qP, qK, qD⟩ := q; exact ⟨q0, q1, qP, va_K.moved (u := U) (U := U.calling g mk a) (Vm.Alike.refl U.vm) qK, qD⟩, va_recv hKc hPc (ci := 1) (q0 := 0) rfl rfl, fun U hU hW => ⟨rfl, by rw [hU], by rw [hU]; exact hPc, va_K.moved hW.alike hKc, hDc.weaken (fun _ _ _ _ => trivial)⟩⟩ rfl rfl hsize rfl (lv_room hW) hdg hf) hS (fun q _ h => hF q h) hF (fun r u t H1 locs1 ht hvm hw hB hz hk hS1 => ?_)
  obtain ⟨hP1, hD1⟩ := hB
  rw [ht] at hP1
  rw [← hw] at kk
  obtain ⟨hP2, hD2⟩ := va_join (wr := [(x0, .inr (0, [.ref xw, .int (h)])), (xw, .inl (dS, 16, .inl (f)))]) (w1 := [(m0, .inr (1, [.ref mw, .ref mc, .int (k)])), (mw, .inl (dW, 16, .inl (u))), (mc, .inl (dK, 256, .inl (g)))]) hP hD [2, 3, 4] [0, 1] rfl rfl (by decide) (by decide) hk hF hP1 hD1
  exact kk H1 locs1 hP2 hD2 hS1
end
section
/-! the cases of the law's switch -/
abbrev la_K (p : Program) (l : Launch) (e : Env) (s : State) (m : MethodId) (below : List Frame) (meth : Method) (c : Code) (b : Nat) (D : va_G) (x0 xw m0 mw mc : Nat) (dS dW dK : ClassId) (g : Nat → Int32) (i : Nat) : Prop := ∀ (f : Nat → Int32) (h : Int32) (fm : Nat → Int32) (k : Int32) (H : Heap) (locs : List Loc) (ls : Array Slot), hm_Rel f h fm g k → va_P D vwCl [(x0, .inr (0, [.ref xw, .int (h)])), (xw, .inl (dS, 16, .inl (f))), (m0, .inr (1, [.ref mw, .ref mc, .int (k)])), (mw, .inl (dW, 16, .inl (fm))), (mc, .inl (dK, 256, .inl (g)))] H → va_D (fun q : Nat => s.heap.size ≤ q) [(x0, .inr (0, [.ref xw, .int (h)])), (xw, .inl (dS, 16, .inl (f))), (m0, .inr (1, [.ref mw, .ref mc, .int (k)])), (mw, .inl (dW, 16, .inl (fm))), (mc, .inl (dK, 256, .inl (g)))] → va_S (fun q : Nat => s.heap.size ≤ q) s.heap H locs → lv_has ls 4 [(0, .ref b), (1, .ref x0), (2, .ref m0), (3, .int (nI i))] → W p l e room_1 s m #[Value.ref b] below meth c H locs 5 293 (lw_Z below #[Value.ref b] s) (F0 m 382 ls [])
set_option maxHeartbeats 4000000 in
theorem la_case0 {p : Program} {l : Launch} {e : Env} {s : State} {m : MethodId} {below : List Frame} {meth : Method} {c : Code} {b L : Nat} {xs : Nat → Int32} {D : va_G} {x0 xw m0 mw mc : Nat} {dS dW dK : ClassId} {f fm g : Nat → Int32} {h k : Int32} {H : Heap} {locs : List Loc} {ls : Array Slot} {i : Nat} (hL : L ≤ 192) (C0 : lw_At p s m meth c b L xs) (hi : i + 3 ≤ L) (hK : va_K D vwCl [(dS, .short), (dW, .int), (dK, .int)] s) (hR : hm_Rel f h fm g k) (hP : va_P D vwCl [(x0, .inr (0, [.ref xw, .int (h)])), (xw, .inl (dS, 16, .inl (f))), (m0, .inr (1, [.ref mw, .ref mc, .int (k)])), (mw, .inl (dW, 16, .inl (fm))), (mc, .inl (dK, 256, .inl (g)))] H) (hD : va_D (fun q : Nat => s.heap.size ≤ q) [(x0, .inr (0, [.ref xw, .int (h)])), (xw, .inl (dS, 16, .inl (f))), (m0, .inr (1, [.ref mw, .ref mc, .int (k)])), (mw, .inl (dW, 16, .inl (fm))), (mc, .inl (dK, 256, .inl (g)))]) (hS : va_S (fun q : Nat => s.heap.size ≤ q) s.heap H locs) (hl : lv_has ls 4 [(0, .ref b), (1, .ref x0), (2, .ref m0), (3, .int (nI i))]) (KK : la_K p l e s m below meth c b D x0 xw m0 mw mc dS dW dK g i) : W p l e room_1 s m #[Value.ref b] below meth c H locs 5 293 (lw_Z below #[Value.ref b] s) (F0 m 96 ls []) := by
  obtain ⟨hx, hb, hr, hml, hown, hts0, hX, hbl, hlocks, hgv⟩ := id C0
  have hts : ∀ w ∈ lw_all, w.before #[Value.ref b] s = true := fun w h => hts0 w (lw_all_tbl h)
  have S : CallFix p m c cL_law 4 s #[Value.ref b] lw_all R_law := ⟨hx, hb, hml, hown, hts⟩
  have hA : ∀ q : Nat, s.heap.size ≤ q → (fun q : Nat => s.heap.size ≤ q) q := fun _ h => h
  have hbA : ¬ (fun q : Nat => s.heap.size ≤ q) b := Nat.not_le.mpr hbl
  have hi1 : vp_in (nI i + 1) L := la_in1 hi (by omega)
  have hi2 : vp_in (nI i + 2) L := la_in2 hi (by omega)
  refine lv_aload_n hx hb dL_law_96 rfl (lv_at hl 1 rfl) ?_
  refine lv_aload_n hx hb dL_law_97 rfl (lv_at hl 0 rfl) ?_
  refine lv_iload_n hx hb dL_law_98 rfl (lv_at hl 3 rfl) ?_
  refine lv_iconst (v := 1) hx hb dL_law_99 (by decide) ?_
  refine lv_iadd hx hb dL_law_100 ?_
  refine va_sld hx hb hX hbl hbA hS hi1 dL_law_101 ?_
  refine lv_aload_n hx hb dL_law_102 rfl (lv_at hl 0 rfl) ?_
  refine lv_iload_n hx hb dL_law_103 rfl (lv_at hl 3 rfl) ?_
  refine lv_iconst (v := 2) hx hb dL_law_104 (by decide) ?_
  refine lv_iadd hx hb dL_law_105 ?_
  refine va_sld hx hb hX hbl hbA hS hi2 dL_law_106 ?_
  refine la_X0_write S ⟨Nat.le_of_ble_eq_true rfl, Nat.le_of_ble_eq_true rfl⟩ hK hP hD hS hA hl.1 (Nat.le_of_ble_eq_true rfl) dL_law_107 ⟨Nat.le_of_ble_eq_true rfl, Nat.le_of_ble_eq_true rfl⟩ (fun H locs hP hD hS => ?_)
  refine lv_aload_n hx hb dL_law_110 rfl (lv_at hl 2 rfl) ?_
  refine lv_aload_n hx hb dL_law_111 rfl (lv_at hl 0 rfl) ?_
  refine lv_iload_n hx hb dL_law_112 rfl (lv_at hl 3 rfl) ?_
  refine lv_iconst (v := 1) hx hb dL_law_113 (by decide) ?_
  refine lv_iadd hx hb dL_law_114 ?_
  refine va_sld hx hb hX hbl hbA hS hi1 dL_law_115 ?_
  refine lv_aload_n hx hb dL_law_116 rfl (lv_at hl 0 rfl) ?_
  refine lv_iload_n hx hb dL_law_117 rfl (lv_at hl 3 rfl) ?_
  refine lv_iconst (v := 2) hx hb dL_law_118 (by decide) ?_
  refine lv_iadd hx hb dL_law_119 ?_
  refine va_sld hx hb hX hbl hbA hS hi2 dL_law_120 ?_
  refine la_X1_write S ⟨Nat.le_of_ble_eq_true rfl, Nat.le_of_ble_eq_true rfl⟩ hK hP hD hS hA hl.1 (Nat.le_of_ble_eq_true rfl) dL_law_121 ⟨Nat.le_of_ble_eq_true rfl, Nat.le_of_ble_eq_true rfl⟩ (fun H locs hP hD hS => ?_)
  have hq := pl_write hR (xs (nI i + 1).toNatClampNeg) (xs (nI i + 2).toNatClampNeg)
  refine lv_icmp_eq (tgt := 382) hx hb dL_law_124 (by decide) (fun c1 => ?_) (fun c1 => ?_)
  · exact KK _ _ _ _ _ _ ls hq.2 hP hD hS hl
  · exact absurd hq.1 c1
set_option maxHeartbeats 4000000 in
theorem la_case1 {p : Program} {l : Launch} {e : Env} {s : State} {m : MethodId} {below : List Frame} {meth : Method} {c : Code} {b L : Nat} {xs : Nat → Int32} {D : va_G} {x0 xw m0 mw mc : Nat} {dS dW dK : ClassId} {f fm g : Nat → Int32} {h k : Int32} {H : Heap} {locs : List Loc} {ls : Array Slot} {i : Nat} (hL : L ≤ 192) (C0 : lw_At p s m meth c b L xs) (hi : i + 3 ≤ L) (hK : va_K D vwCl [(dS, .short), (dW, .int), (dK, .int)] s) (hR : hm_Rel f h fm g k) (hP : va_P D vwCl [(x0, .inr (0, [.ref xw, .int (h)])), (xw, .inl (dS, 16, .inl (f))), (m0, .inr (1, [.ref mw, .ref mc, .int (k)])), (mw, .inl (dW, 16, .inl (fm))), (mc, .inl (dK, 256, .inl (g)))] H) (hD : va_D (fun q : Nat => s.heap.size ≤ q) [(x0, .inr (0, [.ref xw, .int (h)])), (xw, .inl (dS, 16, .inl (f))), (m0, .inr (1, [.ref mw, .ref mc, .int (k)])), (mw, .inl (dW, 16, .inl (fm))), (mc, .inl (dK, 256, .inl (g)))]) (hS : va_S (fun q : Nat => s.heap.size ≤ q) s.heap H locs) (hl : lv_has ls 4 [(0, .ref b), (1, .ref x0), (2, .ref m0), (3, .int (nI i))]) (KK : la_K p l e s m below meth c b D x0 xw m0 mw mc dS dW dK g i) : W p l e room_1 s m #[Value.ref b] below meth c H locs 5 293 (lw_Z below #[Value.ref b] s) (F0 m 129 ls []) := by
  obtain ⟨hx, hb, hr, hml, hown, hts0, hX, hbl, hlocks, hgv⟩ := id C0
  have hts : ∀ w ∈ lw_all, w.before #[Value.ref b] s = true := fun w h => hts0 w (lw_all_tbl h)
  have S : CallFix p m c cL_law 4 s #[Value.ref b] lw_all R_law := ⟨hx, hb, hml, hown, hts⟩
  have hA : ∀ q : Nat, s.heap.size ≤ q → (fun q : Nat => s.heap.size ≤ q) q := fun _ h => h
  have hbA : ¬ (fun q : Nat => s.heap.size ≤ q) b := Nat.not_le.mpr hbl
  have hi1 : vp_in (nI i + 1) L := la_in1 hi (by omega)
  have hi2 : vp_in (nI i + 2) L := la_in2 hi (by omega)
  refine lv_aload_n hx hb dL_law_129 rfl (lv_at hl 1 rfl) ?_
  refine lv_aload_n hx hb dL_law_130 rfl (lv_at hl 0 rfl) ?_
  refine lv_iload_n hx hb dL_law_131 rfl (lv_at hl 3 rfl) ?_
  refine lv_iconst (v := 1) hx hb dL_law_132 (by decide) ?_
  refine lv_iadd hx hb dL_law_133 ?_
  refine va_sld hx hb hX hbl hbA hS hi1 dL_law_134 ?_
  refine lv_aload_n hx hb dL_law_135 rfl (lv_at hl 0 rfl) ?_
  refine lv_iload_n hx hb dL_law_136 rfl (lv_at hl 3 rfl) ?_
  refine lv_iconst (v := 2) hx hb dL_law_137 (by decide) ?_
  refine lv_iadd hx hb dL_law_138 ?_
  refine va_sld hx hb hX hbl hbA hS hi2 dL_law_139 ?_
  refine la_X0_flip S ⟨Nat.le_of_ble_eq_true rfl, Nat.le_of_ble_eq_true rfl⟩ hK hP hD hS hA hl.1 (Nat.le_of_ble_eq_true rfl) dL_law_140 ⟨Nat.le_of_ble_eq_true rfl, Nat.le_of_ble_eq_true rfl⟩ (fun H locs hP hD hS => ?_)
  refine lv_aload_n hx hb dL_law_143 rfl (lv_at hl 2 rfl) ?_
  refine lv_aload_n hx hb dL_law_144 rfl (lv_at hl 0 rfl) ?_
  refine lv_iload_n hx hb dL_law_145 rfl (lv_at hl 3 rfl) ?_
  refine lv_iconst (v := 1) hx hb dL_law_146 (by decide) ?_
  refine lv_iadd hx hb dL_law_147 ?_
  refine va_sld hx hb hX hbl hbA hS hi1 dL_law_148 ?_
  refine lv_aload_n hx hb dL_law_149 rfl (lv_at hl 0 rfl) ?_
  refine lv_iload_n hx hb dL_law_150 rfl (lv_at hl 3 rfl) ?_
  refine lv_iconst (v := 2) hx hb dL_law_151 (by decide) ?_
  refine lv_iadd hx hb dL_law_152 ?_
  refine va_sld hx hb hX hbl hbA hS hi2 dL_law_153 ?_
  refine la_X1_flip S ⟨Nat.le_of_ble_eq_true rfl, Nat.le_of_ble_eq_true rfl⟩ hK hP hD hS hA hl.1 (Nat.le_of_ble_eq_true rfl) dL_law_154 ⟨Nat.le_of_ble_eq_true rfl, Nat.le_of_ble_eq_true rfl⟩ (fun H locs hP hD hS => ?_)
  have hq := pl_flip hR (xs (nI i + 1).toNatClampNeg) (xs (nI i + 2).toNatClampNeg)
  refine lv_icmp_eq (tgt := 382) hx hb dL_law_157 (by decide) (fun c1 => ?_) (fun c1 => ?_)
  · exact KK _ _ _ _ _ _ ls hq.2 hP hD hS hl
  · exact absurd hq.1 c1
set_option maxHeartbeats 4000000 in
theorem la_case2 {p : Program} {l : Launch} {e : Env} {s : State} {m : MethodId} {below : List Frame} {meth : Method} {c : Code} {b L : Nat} {xs : Nat → Int32} {D : va_G} {x0 xw m0 mw mc : Nat} {dS dW dK : ClassId} {f fm g : Nat → Int32} {h k : Int32} {H : Heap} {locs : List Loc} {ls : Array Slot} {i : Nat} (hL : L ≤ 192) (C0 : lw_At p s m meth c b L xs) (hi : i + 3 ≤ L) (hK : va_K D vwCl [(dS, .short), (dW, .int), (dK, .int)] s) (hR : hm_Rel f h fm g k) (hP : va_P D vwCl [(x0, .inr (0, [.ref xw, .int (h)])), (xw, .inl (dS, 16, .inl (f))), (m0, .inr (1, [.ref mw, .ref mc, .int (k)])), (mw, .inl (dW, 16, .inl (fm))), (mc, .inl (dK, 256, .inl (g)))] H) (hD : va_D (fun q : Nat => s.heap.size ≤ q) [(x0, .inr (0, [.ref xw, .int (h)])), (xw, .inl (dS, 16, .inl (f))), (m0, .inr (1, [.ref mw, .ref mc, .int (k)])), (mw, .inl (dW, 16, .inl (fm))), (mc, .inl (dK, 256, .inl (g)))]) (hS : va_S (fun q : Nat => s.heap.size ≤ q) s.heap H locs) (hl : lv_has ls 4 [(0, .ref b), (1, .ref x0), (2, .ref m0), (3, .int (nI i))]) (KK : la_K p l e s m below meth c b D x0 xw m0 mw mc dS dW dK g i) : W p l e room_1 s m #[Value.ref b] below meth c H locs 5 293 (lw_Z below #[Value.ref b] s) (F0 m 162 ls []) := by
  obtain ⟨hx, hb, hr, hml, hown, hts0, hX, hbl, hlocks, hgv⟩ := id C0
  have hts : ∀ w ∈ lw_all, w.before #[Value.ref b] s = true := fun w h => hts0 w (lw_all_tbl h)
  have S : CallFix p m c cL_law 4 s #[Value.ref b] lw_all R_law := ⟨hx, hb, hml, hown, hts⟩
  have hA : ∀ q : Nat, s.heap.size ≤ q → (fun q : Nat => s.heap.size ≤ q) q := fun _ h => h
  have hbA : ¬ (fun q : Nat => s.heap.size ≤ q) b := Nat.not_le.mpr hbl
  have hi1 : vp_in (nI i + 1) L := la_in1 hi (by omega)
  have hi2 : vp_in (nI i + 2) L := la_in2 hi (by omega)
  refine lv_aload_n hx hb dL_law_162 rfl (lv_at hl 1 rfl) ?_
  refine lv_aload_n hx hb dL_law_163 rfl (lv_at hl 0 rfl) ?_
  refine lv_iload_n hx hb dL_law_164 rfl (lv_at hl 3 rfl) ?_
  refine lv_iconst (v := 1) hx hb dL_law_165 (by decide) ?_
  refine lv_iadd hx hb dL_law_166 ?_
  refine va_sld hx hb hX hbl hbA hS hi1 dL_law_167 ?_
  refine la_X0_read S ⟨Nat.le_of_ble_eq_true rfl, Nat.le_of_ble_eq_true rfl⟩ hK hP hl.1 (Nat.le_of_ble_eq_true rfl) dL_law_168 ⟨Nat.le_of_ble_eq_true rfl, Nat.le_of_ble_eq_true rfl⟩ ?_
  refine lv_aload_n hx hb dL_law_171 rfl (lv_at hl 2 rfl) ?_
  refine lv_aload_n hx hb dL_law_172 rfl (lv_at hl 0 rfl) ?_
  refine lv_iload_n hx hb dL_law_173 rfl (lv_at hl 3 rfl) ?_
  refine lv_iconst (v := 1) hx hb dL_law_174 (by decide) ?_
  refine lv_iadd hx hb dL_law_175 ?_
  refine va_sld hx hb hX hbl hbA hS hi1 dL_law_176 ?_
  refine la_X1_read S ⟨Nat.le_of_ble_eq_true rfl, Nat.le_of_ble_eq_true rfl⟩ hK hP hl.1 (Nat.le_of_ble_eq_true rfl) dL_law_177 ⟨Nat.le_of_ble_eq_true rfl, Nat.le_of_ble_eq_true rfl⟩ ?_
  have hq := pl_read hR (xs (nI i + 1).toNatClampNeg)
  refine lv_icmp_eq (tgt := 382) hx hb dL_law_180 (by decide) (fun c1 => ?_) (fun c1 => ?_)
  · exact KK _ _ _ _ _ _ ls hR hP hD hS hl
  · exact absurd hq c1
set_option maxHeartbeats 4000000 in
theorem la_case3 {p : Program} {l : Launch} {e : Env} {s : State} {m : MethodId} {below : List Frame} {meth : Method} {c : Code} {b L : Nat} {xs : Nat → Int32} {D : va_G} {x0 xw m0 mw mc : Nat} {dS dW dK : ClassId} {f fm g : Nat → Int32} {h k : Int32} {H : Heap} {locs : List Loc} {ls : Array Slot} {i : Nat} (hL : L ≤ 192) (C0 : lw_At p s m meth c b L xs) (hi : i + 3 ≤ L) (hK : va_K D vwCl [(dS, .short), (dW, .int), (dK, .int)] s) (hR : hm_Rel f h fm g k) (hP : va_P D vwCl [(x0, .inr (0, [.ref xw, .int (h)])), (xw, .inl (dS, 16, .inl (f))), (m0, .inr (1, [.ref mw, .ref mc, .int (k)])), (mw, .inl (dW, 16, .inl (fm))), (mc, .inl (dK, 256, .inl (g)))] H) (hD : va_D (fun q : Nat => s.heap.size ≤ q) [(x0, .inr (0, [.ref xw, .int (h)])), (xw, .inl (dS, 16, .inl (f))), (m0, .inr (1, [.ref mw, .ref mc, .int (k)])), (mw, .inl (dW, 16, .inl (fm))), (mc, .inl (dK, 256, .inl (g)))]) (hS : va_S (fun q : Nat => s.heap.size ≤ q) s.heap H locs) (hl : lv_has ls 4 [(0, .ref b), (1, .ref x0), (2, .ref m0), (3, .int (nI i))]) (KK : la_K p l e s m below meth c b D x0 xw m0 mw mc dS dW dK g i) : W p l e room_1 s m #[Value.ref b] below meth c H locs 5 293 (lw_Z below #[Value.ref b] s) (F0 m 185 ls []) := by
  obtain ⟨hx, hb, hr, hml, hown, hts0, hX, hbl, hlocks, hgv⟩ := id C0
  have hts : ∀ w ∈ lw_all, w.before #[Value.ref b] s = true := fun w h => hts0 w (lw_all_tbl h)
  have S : CallFix p m c cL_law 4 s #[Value.ref b] lw_all R_law := ⟨hx, hb, hml, hown, hts⟩
  have hA : ∀ q : Nat, s.heap.size ≤ q → (fun q : Nat => s.heap.size ≤ q) q := fun _ h => h
  have hbA : ¬ (fun q : Nat => s.heap.size ≤ q) b := Nat.not_le.mpr hbl
  have hi1 : vp_in (nI i + 1) L := la_in1 hi (by omega)
  have hi2 : vp_in (nI i + 2) L := la_in2 hi (by omega)
  refine lv_aload_n hx hb dL_law_185 rfl (lv_at hl 1 rfl) ?_
  refine lv_aload_n hx hb dL_law_186 rfl (lv_at hl 0 rfl) ?_
  refine lv_iload_n hx hb dL_law_187 rfl (lv_at hl 3 rfl) ?_
  refine lv_iconst (v := 1) hx hb dL_law_188 (by decide) ?_
  refine lv_iadd hx hb dL_law_189 ?_
  refine va_sld hx hb hX hbl hbA hS hi1 dL_law_190 ?_
  refine la_X0_repair S ⟨Nat.le_of_ble_eq_true rfl, Nat.le_of_ble_eq_true rfl⟩ hK hP hD hS hA hl.1 (Nat.le_of_ble_eq_true rfl) dL_law_191 ⟨Nat.le_of_ble_eq_true rfl, Nat.le_of_ble_eq_true rfl⟩ (fun H locs hP hD hS => ?_)
  refine lv_aload_n hx hb dL_law_194 rfl (lv_at hl 2 rfl) ?_
  refine lv_aload_n hx hb dL_law_195 rfl (lv_at hl 0 rfl) ?_
  refine lv_iload_n hx hb dL_law_196 rfl (lv_at hl 3 rfl) ?_
  refine lv_iconst (v := 1) hx hb dL_law_197 (by decide) ?_
  refine lv_iadd hx hb dL_law_198 ?_
  refine va_sld hx hb hX hbl hbA hS hi1 dL_law_199 ?_
  refine la_X1_repair S ⟨Nat.le_of_ble_eq_true rfl, Nat.le_of_ble_eq_true rfl⟩ hK hP hD hS hA hl.1 (Nat.le_of_ble_eq_true rfl) dL_law_200 ⟨Nat.le_of_ble_eq_true rfl, Nat.le_of_ble_eq_true rfl⟩ (fun H locs hP hD hS => ?_)
  have hq := pl_rep hR (xs (nI i + 1).toNatClampNeg)
  refine lv_icmp_eq (tgt := 382) hx hb dL_law_203 (by decide) (fun c1 => ?_) (fun c1 => ?_)
  · exact KK _ _ _ _ _ _ ls hq.2 hP hD hS hl
  · exact absurd hq.1 c1
set_option maxHeartbeats 4000000 in
theorem la_case4 {p : Program} {l : Launch} {e : Env} {s : State} {m : MethodId} {below : List Frame} {meth : Method} {c : Code} {b L : Nat} {xs : Nat → Int32} {D : va_G} {x0 xw m0 mw mc : Nat} {dS dW dK : ClassId} {f fm g : Nat → Int32} {h k : Int32} {H : Heap} {locs : List Loc} {ls : Array Slot} {i : Nat} (hL : L ≤ 192) (C0 : lw_At p s m meth c b L xs) (hi : i + 3 ≤ L) (hK : va_K D vwCl [(dS, .short), (dW, .int), (dK, .int)] s) (hR : hm_Rel f h fm g k) (hP : va_P D vwCl [(x0, .inr (0, [.ref xw, .int (h)])), (xw, .inl (dS, 16, .inl (f))), (m0, .inr (1, [.ref mw, .ref mc, .int (k)])), (mw, .inl (dW, 16, .inl (fm))), (mc, .inl (dK, 256, .inl (g)))] H) (hD : va_D (fun q : Nat => s.heap.size ≤ q) [(x0, .inr (0, [.ref xw, .int (h)])), (xw, .inl (dS, 16, .inl (f))), (m0, .inr (1, [.ref mw, .ref mc, .int (k)])), (mw, .inl (dW, 16, .inl (fm))), (mc, .inl (dK, 256, .inl (g)))]) (hS : va_S (fun q : Nat => s.heap.size ≤ q) s.heap H locs) (hl : lv_has ls 4 [(0, .ref b), (1, .ref x0), (2, .ref m0), (3, .int (nI i))]) (KK : la_K p l e s m below meth c b D x0 xw m0 mw mc dS dW dK g i) : W p l e room_1 s m #[Value.ref b] below meth c H locs 5 293 (lw_Z below #[Value.ref b] s) (F0 m 208 ls []) := by
  obtain ⟨hx, hb, hr, hml, hown, hts0, hX, hbl, hlocks, hgv⟩ := id C0
  have hts : ∀ w ∈ lw_all, w.before #[Value.ref b] s = true := fun w h => hts0 w (lw_all_tbl h)
  have S : CallFix p m c cL_law 4 s #[Value.ref b] lw_all R_law := ⟨hx, hb, hml, hown, hts⟩
  have hA : ∀ q : Nat, s.heap.size ≤ q → (fun q : Nat => s.heap.size ≤ q) q := fun _ h => h
  have hbA : ¬ (fun q : Nat => s.heap.size ≤ q) b := Nat.not_le.mpr hbl
  have hi1 : vp_in (nI i + 1) L := la_in1 hi (by omega)
  have hi2 : vp_in (nI i + 2) L := la_in2 hi (by omega)
  refine lv_aload_n hx hb dL_law_208 rfl (lv_at hl 1 rfl) ?_
  refine lv_aload_n hx hb dL_law_209 rfl (lv_at hl 0 rfl) ?_
  refine lv_iload_n hx hb dL_law_210 rfl (lv_at hl 3 rfl) ?_
  refine lv_iconst (v := 1) hx hb dL_law_211 (by decide) ?_
  refine lv_iadd hx hb dL_law_212 ?_
  refine va_sld hx hb hX hbl hbA hS hi1 dL_law_213 ?_
  refine la_X0_scrub S ⟨Nat.le_of_ble_eq_true rfl, Nat.le_of_ble_eq_true rfl⟩ hK hP hD hS hA hl.1 (Nat.le_of_ble_eq_true rfl) dL_law_214 ⟨Nat.le_of_ble_eq_true rfl, Nat.le_of_ble_eq_true rfl⟩ (fun H locs hP hD hS => ?_)
  refine lv_aload_n hx hb dL_law_217 rfl (lv_at hl 2 rfl) ?_
  refine lv_aload_n hx hb dL_law_218 rfl (lv_at hl 0 rfl) ?_
  refine lv_iload_n hx hb dL_law_219 rfl (lv_at hl 3 rfl) ?_
  refine lv_iconst (v := 1) hx hb dL_law_220 (by decide) ?_
  refine lv_iadd hx hb dL_law_221 ?_
  refine va_sld hx hb hX hbl hbA hS hi1 dL_law_222 ?_
  refine la_X1_scrub S ⟨Nat.le_of_ble_eq_true rfl, Nat.le_of_ble_eq_true rfl⟩ hK hP hD hS hA hl.1 (Nat.le_of_ble_eq_true rfl) dL_law_223 ⟨Nat.le_of_ble_eq_true rfl, Nat.le_of_ble_eq_true rfl⟩ (fun H locs hP hD hS => ?_)
  have hq := pl_scr hR (xs (nI i + 1).toNatClampNeg)
  refine lv_icmp_eq (tgt := 382) hx hb dL_law_226 (by decide) (fun c1 => ?_) (fun c1 => ?_)
  · exact KK _ _ _ _ _ _ ls hq.2 hP hD hS hl
  · exact absurd hq.1 c1
set_option maxHeartbeats 4000000 in
theorem la_case5 {p : Program} {l : Launch} {e : Env} {s : State} {m : MethodId} {below : List Frame} {meth : Method} {c : Code} {b L : Nat} {xs : Nat → Int32} {D : va_G} {x0 xw m0 mw mc : Nat} {dS dW dK : ClassId} {f fm g : Nat → Int32} {h k : Int32} {H : Heap} {locs : List Loc} {ls : Array Slot} {i : Nat} (hL : L ≤ 192) (C0 : lw_At p s m meth c b L xs) (hi : i + 3 ≤ L) (hK : va_K D vwCl [(dS, .short), (dW, .int), (dK, .int)] s) (hR : hm_Rel f h fm g k) (hP : va_P D vwCl [(x0, .inr (0, [.ref xw, .int (h)])), (xw, .inl (dS, 16, .inl (f))), (m0, .inr (1, [.ref mw, .ref mc, .int (k)])), (mw, .inl (dW, 16, .inl (fm))), (mc, .inl (dK, 256, .inl (g)))] H) (hD : va_D (fun q : Nat => s.heap.size ≤ q) [(x0, .inr (0, [.ref xw, .int (h)])), (xw, .inl (dS, 16, .inl (f))), (m0, .inr (1, [.ref mw, .ref mc, .int (k)])), (mw, .inl (dW, 16, .inl (fm))), (mc, .inl (dK, 256, .inl (g)))]) (hS : va_S (fun q : Nat => s.heap.size ≤ q) s.heap H locs) (hl : lv_has ls 4 [(0, .ref b), (1, .ref x0), (2, .ref m0), (3, .int (nI i))]) (KK : la_K p l e s m below meth c b D x0 xw m0 mw mc dS dW dK g i) : W p l e room_1 s m #[Value.ref b] below meth c H locs 5 293 (lw_Z below #[Value.ref b] s) (F0 m 231 ls []) := by
  obtain ⟨hx, hb, hr, hml, hown, hts0, hX, hbl, hlocks, hgv⟩ := id C0
  have hts : ∀ w ∈ lw_all, w.before #[Value.ref b] s = true := fun w h => hts0 w (lw_all_tbl h)
  have S : CallFix p m c cL_law 4 s #[Value.ref b] lw_all R_law := ⟨hx, hb, hml, hown, hts⟩
  have hA : ∀ q : Nat, s.heap.size ≤ q → (fun q : Nat => s.heap.size ≤ q) q := fun _ h => h
  have hbA : ¬ (fun q : Nat => s.heap.size ≤ q) b := Nat.not_le.mpr hbl
  have hi1 : vp_in (nI i + 1) L := la_in1 hi (by omega)
  have hi2 : vp_in (nI i + 2) L := la_in2 hi (by omega)
  refine lv_aload_n hx hb dL_law_231 rfl (lv_at hl 1 rfl) ?_
  refine la_X0_hand S ⟨Nat.le_of_ble_eq_true rfl, Nat.le_of_ble_eq_true rfl⟩ hK hP hl.1 (Nat.le_of_ble_eq_true rfl) dL_law_232 ⟨Nat.le_of_ble_eq_true rfl, Nat.le_of_ble_eq_true rfl⟩ ?_
  refine lv_aload_n hx hb dL_law_235 rfl (lv_at hl 2 rfl) ?_
  refine la_X1_hand S ⟨Nat.le_of_ble_eq_true rfl, Nat.le_of_ble_eq_true rfl⟩ hK hP hl.1 (Nat.le_of_ble_eq_true rfl) dL_law_236 ⟨Nat.le_of_ble_eq_true rfl, Nat.le_of_ble_eq_true rfl⟩ ?_
  have hq := pl_hand hR
  refine lv_icmp_eq (tgt := 382) hx hb dL_law_239 (by decide) (fun c1 => ?_) (fun c1 => ?_)
  · exact KK _ _ _ _ _ _ ls hR hP hD hS hl
  · exact absurd hq c1
set_option maxHeartbeats 4000000 in
theorem la_case6 {p : Program} {l : Launch} {e : Env} {s : State} {m : MethodId} {below : List Frame} {meth : Method} {c : Code} {b L : Nat} {xs : Nat → Int32} {D : va_G} {x0 xw m0 mw mc : Nat} {dS dW dK : ClassId} {f fm g : Nat → Int32} {h k : Int32} {H : Heap} {locs : List Loc} {ls : Array Slot} {i : Nat} (hL : L ≤ 192) (C0 : lw_At p s m meth c b L xs) (hi : i + 3 ≤ L) (hK : va_K D vwCl [(dS, .short), (dW, .int), (dK, .int)] s) (hR : hm_Rel f h fm g k) (hP : va_P D vwCl [(x0, .inr (0, [.ref xw, .int (h)])), (xw, .inl (dS, 16, .inl (f))), (m0, .inr (1, [.ref mw, .ref mc, .int (k)])), (mw, .inl (dW, 16, .inl (fm))), (mc, .inl (dK, 256, .inl (g)))] H) (hD : va_D (fun q : Nat => s.heap.size ≤ q) [(x0, .inr (0, [.ref xw, .int (h)])), (xw, .inl (dS, 16, .inl (f))), (m0, .inr (1, [.ref mw, .ref mc, .int (k)])), (mw, .inl (dW, 16, .inl (fm))), (mc, .inl (dK, 256, .inl (g)))]) (hS : va_S (fun q : Nat => s.heap.size ≤ q) s.heap H locs) (hl : lv_has ls 4 [(0, .ref b), (1, .ref x0), (2, .ref m0), (3, .int (nI i))]) (KK : la_K p l e s m below meth c b D x0 xw m0 mw mc dS dW dK g i) : W p l e room_1 s m #[Value.ref b] below meth c H locs 5 293 (lw_Z below #[Value.ref b] s) (F0 m 244 ls []) := by
  obtain ⟨hx, hb, hr, hml, hown, hts0, hX, hbl, hlocks, hgv⟩ := id C0
  have hts : ∀ w ∈ lw_all, w.before #[Value.ref b] s = true := fun w h => hts0 w (lw_all_tbl h)
  have S : CallFix p m c cL_law 4 s #[Value.ref b] lw_all R_law := ⟨hx, hb, hml, hown, hts⟩
  have hA : ∀ q : Nat, s.heap.size ≤ q → (fun q : Nat => s.heap.size ≤ q) q := fun _ h => h
  have hbA : ¬ (fun q : Nat => s.heap.size ≤ q) b := Nat.not_le.mpr hbl
  have hi1 : vp_in (nI i + 1) L := la_in1 hi (by omega)
  have hi2 : vp_in (nI i + 2) L := la_in2 hi (by omega)
  refine lv_aload_n hx hb dL_law_244 rfl (lv_at hl 1 rfl) ?_
  refine la_X0_broken S ⟨Nat.le_of_ble_eq_true rfl, Nat.le_of_ble_eq_true rfl⟩ hK hP hl.1 (Nat.le_of_ble_eq_true rfl) dL_law_245 ⟨Nat.le_of_ble_eq_true rfl, Nat.le_of_ble_eq_true rfl⟩ ?_
  refine lv_aload_n hx hb dL_law_248 rfl (lv_at hl 2 rfl) ?_
  refine la_X1_broken S ⟨Nat.le_of_ble_eq_true rfl, Nat.le_of_ble_eq_true rfl⟩ hK hP hl.1 (Nat.le_of_ble_eq_true rfl) dL_law_249 ⟨Nat.le_of_ble_eq_true rfl, Nat.le_of_ble_eq_true rfl⟩ ?_
  have hq := pl_brk hR
  refine lv_icmp_eq (tgt := 382) hx hb dL_law_252 (by decide) (fun c1 => ?_) (fun c1 => ?_)
  · exact KK _ _ _ _ _ _ ls hR hP hD hS hl
  · exact absurd hq c1
set_option maxHeartbeats 4000000 in
theorem la_case7 {p : Program} {l : Launch} {e : Env} {s : State} {m : MethodId} {below : List Frame} {meth : Method} {c : Code} {b L : Nat} {xs : Nat → Int32} {D : va_G} {x0 xw m0 mw mc : Nat} {dS dW dK : ClassId} {f fm g : Nat → Int32} {h k : Int32} {H : Heap} {locs : List Loc} {ls : Array Slot} {i : Nat} (hL : L ≤ 192) (C0 : lw_At p s m meth c b L xs) (hi : i + 3 ≤ L) (hK : va_K D vwCl [(dS, .short), (dW, .int), (dK, .int)] s) (hR : hm_Rel f h fm g k) (hP : va_P D vwCl [(x0, .inr (0, [.ref xw, .int (h)])), (xw, .inl (dS, 16, .inl (f))), (m0, .inr (1, [.ref mw, .ref mc, .int (k)])), (mw, .inl (dW, 16, .inl (fm))), (mc, .inl (dK, 256, .inl (g)))] H) (hD : va_D (fun q : Nat => s.heap.size ≤ q) [(x0, .inr (0, [.ref xw, .int (h)])), (xw, .inl (dS, 16, .inl (f))), (m0, .inr (1, [.ref mw, .ref mc, .int (k)])), (mw, .inl (dW, 16, .inl (fm))), (mc, .inl (dK, 256, .inl (g)))]) (hS : va_S (fun q : Nat => s.heap.size ≤ q) s.heap H locs) (hl : lv_has ls 4 [(0, .ref b), (1, .ref x0), (2, .ref m0), (3, .int (nI i))]) (KK : la_K p l e s m below meth c b D x0 xw m0 mw mc dS dW dK g i) : W p l e room_1 s m #[Value.ref b] below meth c H locs 5 293 (lw_Z below #[Value.ref b] s) (F0 m 257 ls []) := by
  obtain ⟨hx, hb, hr, hml, hown, hts0, hX, hbl, hlocks, hgv⟩ := id C0
  have hts : ∀ w ∈ lw_all, w.before #[Value.ref b] s = true := fun w h => hts0 w (lw_all_tbl h)
  have S : CallFix p m c cL_law 4 s #[Value.ref b] lw_all R_law := ⟨hx, hb, hml, hown, hts⟩
  have hA : ∀ q : Nat, s.heap.size ≤ q → (fun q : Nat => s.heap.size ≤ q) q := fun _ h => h
  have hbA : ¬ (fun q : Nat => s.heap.size ≤ q) b := Nat.not_le.mpr hbl
  have hi1 : vp_in (nI i + 1) L := la_in1 hi (by omega)
  have hi2 : vp_in (nI i + 2) L := la_in2 hi (by omega)
  refine lv_aload_n hx hb dL_law_257 rfl (lv_at hl 1 rfl) ?_
  refine la_X0_marred S ⟨Nat.le_of_ble_eq_true rfl, Nat.le_of_ble_eq_true rfl⟩ hK hP hl.1 (Nat.le_of_ble_eq_true rfl) dL_law_258 ⟨Nat.le_of_ble_eq_true rfl, Nat.le_of_ble_eq_true rfl⟩ ?_
  refine lv_aload_n hx hb dL_law_261 rfl (lv_at hl 2 rfl) ?_
  refine la_X1_marred S ⟨Nat.le_of_ble_eq_true rfl, Nat.le_of_ble_eq_true rfl⟩ hK hP hl.1 (Nat.le_of_ble_eq_true rfl) dL_law_262 ⟨Nat.le_of_ble_eq_true rfl, Nat.le_of_ble_eq_true rfl⟩ ?_
  have hq := pl_mar hR
  refine lv_icmp_eq (tgt := 382) hx hb dL_law_265 (by decide) (fun c1 => ?_) (fun c1 => ?_)
  · exact KK _ _ _ _ _ _ ls hR hP hD hS hl
  · exact absurd hq c1
set_option maxHeartbeats 4000000 in
theorem la_case8 {p : Program} {l : Launch} {e : Env} {s : State} {m : MethodId} {below : List Frame} {meth : Method} {c : Code} {b L : Nat} {xs : Nat → Int32} {D : va_G} {x0 xw m0 mw mc : Nat} {dS dW dK : ClassId} {f fm g : Nat → Int32} {h k : Int32} {H : Heap} {locs : List Loc} {ls : Array Slot} {i : Nat} (hL : L ≤ 192) (C0 : lw_At p s m meth c b L xs) (hi : i + 3 ≤ L) (hK : va_K D vwCl [(dS, .short), (dW, .int), (dK, .int)] s) (hR : hm_Rel f h fm g k) (hP : va_P D vwCl [(x0, .inr (0, [.ref xw, .int (h)])), (xw, .inl (dS, 16, .inl (f))), (m0, .inr (1, [.ref mw, .ref mc, .int (k)])), (mw, .inl (dW, 16, .inl (fm))), (mc, .inl (dK, 256, .inl (g)))] H) (hD : va_D (fun q : Nat => s.heap.size ≤ q) [(x0, .inr (0, [.ref xw, .int (h)])), (xw, .inl (dS, 16, .inl (f))), (m0, .inr (1, [.ref mw, .ref mc, .int (k)])), (mw, .inl (dW, 16, .inl (fm))), (mc, .inl (dK, 256, .inl (g)))]) (hS : va_S (fun q : Nat => s.heap.size ≤ q) s.heap H locs) (hl : lv_has ls 4 [(0, .ref b), (1, .ref x0), (2, .ref m0), (3, .int (nI i))]) (KK : la_K p l e s m below meth c b D x0 xw m0 mw mc dS dW dK g i) : W p l e room_1 s m #[Value.ref b] below meth c H locs 5 293 (lw_Z below #[Value.ref b] s) (F0 m 270 ls []) := by
  obtain ⟨hx, hb, hr, hml, hown, hts0, hX, hbl, hlocks, hgv⟩ := id C0
  have hts : ∀ w ∈ lw_all, w.before #[Value.ref b] s = true := fun w h => hts0 w (lw_all_tbl h)
  have S : CallFix p m c cL_law 4 s #[Value.ref b] lw_all R_law := ⟨hx, hb, hml, hown, hts⟩
  have hA : ∀ q : Nat, s.heap.size ≤ q → (fun q : Nat => s.heap.size ≤ q) q := fun _ h => h
  have hbA : ¬ (fun q : Nat => s.heap.size ≤ q) b := Nat.not_le.mpr hbl
  have hi1 : vp_in (nI i + 1) L := la_in1 hi (by omega)
  have hi2 : vp_in (nI i + 2) L := la_in2 hi (by omega)
  refine lv_aload_n hx hb dL_law_270 rfl (lv_at hl 1 rfl) ?_
  refine lv_aload_n hx hb dL_law_271 rfl (lv_at hl 0 rfl) ?_
  refine lv_iload_n hx hb dL_law_272 rfl (lv_at hl 3 rfl) ?_
  refine lv_iconst (v := 1) hx hb dL_law_273 (by decide) ?_
  refine lv_iadd hx hb dL_law_274 ?_
  refine va_sld hx hb hX hbl hbA hS hi1 dL_law_275 ?_
  refine la_X0_raw S ⟨Nat.le_of_ble_eq_true rfl, Nat.le_of_ble_eq_true rfl⟩ hK hP hl.1 (Nat.le_of_ble_eq_true rfl) dL_law_276 ⟨Nat.le_of_ble_eq_true rfl, Nat.le_of_ble_eq_true rfl⟩ ?_
  refine lv_aload_n hx hb dL_law_279 rfl (lv_at hl 2 rfl) ?_
  refine lv_aload_n hx hb dL_law_280 rfl (lv_at hl 0 rfl) ?_
  refine lv_iload_n hx hb dL_law_281 rfl (lv_at hl 3 rfl) ?_
  refine lv_iconst (v := 1) hx hb dL_law_282 (by decide) ?_
  refine lv_iadd hx hb dL_law_283 ?_
  refine va_sld hx hb hX hbl hbA hS hi1 dL_law_284 ?_
  refine la_X1_raw S ⟨Nat.le_of_ble_eq_true rfl, Nat.le_of_ble_eq_true rfl⟩ hK hP hl.1 (Nat.le_of_ble_eq_true rfl) dL_law_285 ⟨Nat.le_of_ble_eq_true rfl, Nat.le_of_ble_eq_true rfl⟩ ?_
  have hq := pl_raw hR (xs (nI i + 1).toNatClampNeg)
  refine lv_icmp_eq (tgt := 382) hx hb dL_law_288 (by decide) (fun c1 => ?_) (fun c1 => ?_)
  · exact KK _ _ _ _ _ _ ls hR hP hD hS hl
  · exact absurd hq c1
set_option maxHeartbeats 4000000 in
theorem la_case9 {p : Program} {l : Launch} {e : Env} {s : State} {m : MethodId} {below : List Frame} {meth : Method} {c : Code} {b L : Nat} {xs : Nat → Int32} {D : va_G} {x0 xw m0 mw mc : Nat} {dS dW dK : ClassId} {f fm g : Nat → Int32} {h k : Int32} {H : Heap} {locs : List Loc} {ls : Array Slot} {i : Nat} (hL : L ≤ 192) (C0 : lw_At p s m meth c b L xs) (hi : i + 3 ≤ L) (hK : va_K D vwCl [(dS, .short), (dW, .int), (dK, .int)] s) (hR : hm_Rel f h fm g k) (hP : va_P D vwCl [(x0, .inr (0, [.ref xw, .int (h)])), (xw, .inl (dS, 16, .inl (f))), (m0, .inr (1, [.ref mw, .ref mc, .int (k)])), (mw, .inl (dW, 16, .inl (fm))), (mc, .inl (dK, 256, .inl (g)))] H) (hD : va_D (fun q : Nat => s.heap.size ≤ q) [(x0, .inr (0, [.ref xw, .int (h)])), (xw, .inl (dS, 16, .inl (f))), (m0, .inr (1, [.ref mw, .ref mc, .int (k)])), (mw, .inl (dW, 16, .inl (fm))), (mc, .inl (dK, 256, .inl (g)))]) (hS : va_S (fun q : Nat => s.heap.size ≤ q) s.heap H locs) (hl : lv_has ls 4 [(0, .ref b), (1, .ref x0), (2, .ref m0), (3, .int (nI i))]) (KK : la_K p l e s m below meth c b D x0 xw m0 mw mc dS dW dK g i) : W p l e room_1 s m #[Value.ref b] below meth c H locs 5 293 (lw_Z below #[Value.ref b] s) (F0 m 293 ls []) := by
  obtain ⟨hx, hb, hr, hml, hown, hts0, hX, hbl, hlocks, hgv⟩ := id C0
  have hts : ∀ w ∈ lw_all, w.before #[Value.ref b] s = true := fun w h => hts0 w (lw_all_tbl h)
  have S : CallFix p m c cL_law 4 s #[Value.ref b] lw_all R_law := ⟨hx, hb, hml, hown, hts⟩
  have hA : ∀ q : Nat, s.heap.size ≤ q → (fun q : Nat => s.heap.size ≤ q) q := fun _ h => h
  have hbA : ¬ (fun q : Nat => s.heap.size ≤ q) b := Nat.not_le.mpr hbl
  have hi1 : vp_in (nI i + 1) L := la_in1 hi (by omega)
  have hi2 : vp_in (nI i + 2) L := la_in2 hi (by omega)
  refine lv_aload_n hx hb dL_law_293 rfl (lv_at hl 1 rfl) ?_
  refine lv_aload_n hx hb dL_law_294 rfl (lv_at hl 0 rfl) ?_
  refine lv_iload_n hx hb dL_law_295 rfl (lv_at hl 3 rfl) ?_
  refine lv_iconst (v := 1) hx hb dL_law_296 (by decide) ?_
  refine lv_iadd hx hb dL_law_297 ?_
  refine va_sld hx hb hX hbl hbA hS hi1 dL_law_298 ?_
  refine lv_aload_n hx hb dL_law_299 rfl (lv_at hl 0 rfl) ?_
  refine lv_iload_n hx hb dL_law_300 rfl (lv_at hl 3 rfl) ?_
  refine lv_iconst (v := 2) hx hb dL_law_301 (by decide) ?_
  refine lv_iadd hx hb dL_law_302 ?_
  refine va_sld hx hb hX hbl hbA hS hi2 dL_law_303 ?_
  refine la_X0_distance S ⟨Nat.le_of_ble_eq_true rfl, Nat.le_of_ble_eq_true rfl⟩ hK hP hl.1 (Nat.le_of_ble_eq_true rfl) dL_law_304 ⟨Nat.le_of_ble_eq_true rfl, Nat.le_of_ble_eq_true rfl⟩ ?_
  refine lv_aload_n hx hb dL_law_307 rfl (lv_at hl 2 rfl) ?_
  refine lv_aload_n hx hb dL_law_308 rfl (lv_at hl 0 rfl) ?_
  refine lv_iload_n hx hb dL_law_309 rfl (lv_at hl 3 rfl) ?_
  refine lv_iconst (v := 1) hx hb dL_law_310 (by decide) ?_
  refine lv_iadd hx hb dL_law_311 ?_
  refine va_sld hx hb hX hbl hbA hS hi1 dL_law_312 ?_
  refine lv_aload_n hx hb dL_law_313 rfl (lv_at hl 0 rfl) ?_
  refine lv_iload_n hx hb dL_law_314 rfl (lv_at hl 3 rfl) ?_
  refine lv_iconst (v := 2) hx hb dL_law_315 (by decide) ?_
  refine lv_iadd hx hb dL_law_316 ?_
  refine va_sld hx hb hX hbl hbA hS hi2 dL_law_317 ?_
  refine la_X1_distance S ⟨Nat.le_of_ble_eq_true rfl, Nat.le_of_ble_eq_true rfl⟩ hK hP hl.1 (Nat.le_of_ble_eq_true rfl) dL_law_318 ⟨Nat.le_of_ble_eq_true rfl, Nat.le_of_ble_eq_true rfl⟩ ?_
  have hq := pl_dist hR (xs (nI i + 1).toNatClampNeg) (xs (nI i + 2).toNatClampNeg)
  refine lv_icmp_eq (tgt := 382) hx hb dL_law_321 (by decide) (fun c1 => ?_) (fun c1 => ?_)
  · exact KK _ _ _ _ _ _ ls hR hP hD hS hl
  · exact absurd hq c1
set_option maxHeartbeats 4000000 in
theorem la_case10 {p : Program} {l : Launch} {e : Env} {s : State} {m : MethodId} {below : List Frame} {meth : Method} {c : Code} {b L : Nat} {xs : Nat → Int32} {D : va_G} {x0 xw m0 mw mc : Nat} {dS dW dK : ClassId} {f fm g : Nat → Int32} {h k : Int32} {H : Heap} {locs : List Loc} {ls : Array Slot} {i : Nat} (hL : L ≤ 192) (C0 : lw_At p s m meth c b L xs) (hi : i + 3 ≤ L) (hK : va_K D vwCl [(dS, .short), (dW, .int), (dK, .int)] s) (hR : hm_Rel f h fm g k) (hP : va_P D vwCl [(x0, .inr (0, [.ref xw, .int (h)])), (xw, .inl (dS, 16, .inl (f))), (m0, .inr (1, [.ref mw, .ref mc, .int (k)])), (mw, .inl (dW, 16, .inl (fm))), (mc, .inl (dK, 256, .inl (g)))] H) (hD : va_D (fun q : Nat => s.heap.size ≤ q) [(x0, .inr (0, [.ref xw, .int (h)])), (xw, .inl (dS, 16, .inl (f))), (m0, .inr (1, [.ref mw, .ref mc, .int (k)])), (mw, .inl (dW, 16, .inl (fm))), (mc, .inl (dK, 256, .inl (g)))]) (hS : va_S (fun q : Nat => s.heap.size ≤ q) s.heap H locs) (hl : lv_has ls 4 [(0, .ref b), (1, .ref x0), (2, .ref m0), (3, .int (nI i))]) (KK : la_K p l e s m below meth c b D x0 xw m0 mw mc dS dW dK g i) : W p l e room_1 s m #[Value.ref b] below meth c H locs 5 293 (lw_Z below #[Value.ref b] s) (F0 m 326 ls []) := by
  obtain ⟨hx, hb, hr, hml, hown, hts0, hX, hbl, hlocks, hgv⟩ := id C0
  have hts : ∀ w ∈ lw_all, w.before #[Value.ref b] s = true := fun w h => hts0 w (lw_all_tbl h)
  have S : CallFix p m c cL_law 4 s #[Value.ref b] lw_all R_law := ⟨hx, hb, hml, hown, hts⟩
  have hA : ∀ q : Nat, s.heap.size ≤ q → (fun q : Nat => s.heap.size ≤ q) q := fun _ h => h
  have hbA : ¬ (fun q : Nat => s.heap.size ≤ q) b := Nat.not_le.mpr hbl
  have hi1 : vp_in (nI i + 1) L := la_in1 hi (by omega)
  have hi2 : vp_in (nI i + 2) L := la_in2 hi (by omega)
  refine lv_aload_n hx hb dL_law_326 rfl (lv_at hl 1 rfl) ?_
  refine lv_aload_n hx hb dL_law_327 rfl (lv_at hl 0 rfl) ?_
  refine lv_iload_n hx hb dL_law_328 rfl (lv_at hl 3 rfl) ?_
  refine lv_iconst (v := 1) hx hb dL_law_329 (by decide) ?_
  refine lv_iadd hx hb dL_law_330 ?_
  refine va_sld hx hb hX hbl hbA hS hi1 dL_law_331 ?_
  refine la_X0_nearest S ⟨Nat.le_of_ble_eq_true rfl, Nat.le_of_ble_eq_true rfl⟩ hK hP hl.1 (Nat.le_of_ble_eq_true rfl) dL_law_332 ⟨Nat.le_of_ble_eq_true rfl, Nat.le_of_ble_eq_true rfl⟩ ?_
  refine lv_aload_n hx hb dL_law_335 rfl (lv_at hl 2 rfl) ?_
  refine lv_aload_n hx hb dL_law_336 rfl (lv_at hl 0 rfl) ?_
  refine lv_iload_n hx hb dL_law_337 rfl (lv_at hl 3 rfl) ?_
  refine lv_iconst (v := 1) hx hb dL_law_338 (by decide) ?_
  refine lv_iadd hx hb dL_law_339 ?_
  refine va_sld hx hb hX hbl hbA hS hi1 dL_law_340 ?_
  refine la_X1_nearest S ⟨Nat.le_of_ble_eq_true rfl, Nat.le_of_ble_eq_true rfl⟩ hK hP hl.1 (Nat.le_of_ble_eq_true rfl) dL_law_341 ⟨Nat.le_of_ble_eq_true rfl, Nat.le_of_ble_eq_true rfl⟩ ?_
  have hq := pl_near hR (xs (nI i + 1).toNatClampNeg)
  refine lv_icmp_eq (tgt := 382) hx hb dL_law_344 (by decide) (fun c1 => ?_) (fun c1 => ?_)
  · exact KK _ _ _ _ _ _ ls hR hP hD hS hl
  · exact absurd hq c1
set_option maxHeartbeats 4000000 in
theorem la_case11 {p : Program} {l : Launch} {e : Env} {s : State} {m : MethodId} {below : List Frame} {meth : Method} {c : Code} {b L : Nat} {xs : Nat → Int32} {D : va_G} {x0 xw m0 mw mc : Nat} {dS dW dK : ClassId} {f fm g : Nat → Int32} {h k : Int32} {H : Heap} {locs : List Loc} {ls : Array Slot} {i : Nat} (hL : L ≤ 192) (C0 : lw_At p s m meth c b L xs) (hi : i + 3 ≤ L) (hK : va_K D vwCl [(dS, .short), (dW, .int), (dK, .int)] s) (hR : hm_Rel f h fm g k) (hP : va_P D vwCl [(x0, .inr (0, [.ref xw, .int (h)])), (xw, .inl (dS, 16, .inl (f))), (m0, .inr (1, [.ref mw, .ref mc, .int (k)])), (mw, .inl (dW, 16, .inl (fm))), (mc, .inl (dK, 256, .inl (g)))] H) (hD : va_D (fun q : Nat => s.heap.size ≤ q) [(x0, .inr (0, [.ref xw, .int (h)])), (xw, .inl (dS, 16, .inl (f))), (m0, .inr (1, [.ref mw, .ref mc, .int (k)])), (mw, .inl (dW, 16, .inl (fm))), (mc, .inl (dK, 256, .inl (g)))]) (hS : va_S (fun q : Nat => s.heap.size ≤ q) s.heap H locs) (hl : lv_has ls 4 [(0, .ref b), (1, .ref x0), (2, .ref m0), (3, .int (nI i))]) (KK : la_K p l e s m below meth c b D x0 xw m0 mw mc dS dW dK g i) : W p l e room_1 s m #[Value.ref b] below meth c H locs 5 293 (lw_Z below #[Value.ref b] s) (F0 m 349 ls []) := by
  obtain ⟨hx, hb, hr, hml, hown, hts0, hX, hbl, hlocks, hgv⟩ := id C0
  have hts : ∀ w ∈ lw_all, w.before #[Value.ref b] s = true := fun w h => hts0 w (lw_all_tbl h)
  have S : CallFix p m c cL_law 4 s #[Value.ref b] lw_all R_law := ⟨hx, hb, hml, hown, hts⟩
  have hA : ∀ q : Nat, s.heap.size ≤ q → (fun q : Nat => s.heap.size ≤ q) q := fun _ h => h
  have hbA : ¬ (fun q : Nat => s.heap.size ≤ q) b := Nat.not_le.mpr hbl
  have hi1 : vp_in (nI i + 1) L := la_in1 hi (by omega)
  have hi2 : vp_in (nI i + 2) L := la_in2 hi (by omega)
  refine lv_aload_n hx hb dL_law_349 rfl (lv_at hl 1 rfl) ?_
  refine lv_aload_n hx hb dL_law_350 rfl (lv_at hl 0 rfl) ?_
  refine lv_iload_n hx hb dL_law_351 rfl (lv_at hl 3 rfl) ?_
  refine lv_iconst (v := 1) hx hb dL_law_352 (by decide) ?_
  refine lv_iadd hx hb dL_law_353 ?_
  refine va_sld hx hb hX hbl hbA hS hi1 dL_law_354 ?_
  refine lv_aload_n hx hb dL_law_355 rfl (lv_at hl 0 rfl) ?_
  refine lv_iload_n hx hb dL_law_356 rfl (lv_at hl 3 rfl) ?_
  refine lv_iconst (v := 2) hx hb dL_law_357 (by decide) ?_
  refine lv_iadd hx hb dL_law_358 ?_
  refine va_sld hx hb hX hbl hbA hS hi2 dL_law_359 ?_
  refine la_X0_mix S ⟨Nat.le_of_ble_eq_true rfl, Nat.le_of_ble_eq_true rfl⟩ hK hP hD hS hA hl.1 (Nat.le_of_ble_eq_true rfl) dL_law_360 ⟨Nat.le_of_ble_eq_true rfl, Nat.le_of_ble_eq_true rfl⟩ (fun H locs hP hD hS => ?_)
  refine lv_aload_n hx hb dL_law_363 rfl (lv_at hl 2 rfl) ?_
  refine lv_aload_n hx hb dL_law_364 rfl (lv_at hl 0 rfl) ?_
  refine lv_iload_n hx hb dL_law_365 rfl (lv_at hl 3 rfl) ?_
  refine lv_iconst (v := 1) hx hb dL_law_366 (by decide) ?_
  refine lv_iadd hx hb dL_law_367 ?_
  refine va_sld hx hb hX hbl hbA hS hi1 dL_law_368 ?_
  refine lv_aload_n hx hb dL_law_369 rfl (lv_at hl 0 rfl) ?_
  refine lv_iload_n hx hb dL_law_370 rfl (lv_at hl 3 rfl) ?_
  refine lv_iconst (v := 2) hx hb dL_law_371 (by decide) ?_
  refine lv_iadd hx hb dL_law_372 ?_
  refine va_sld hx hb hX hbl hbA hS hi2 dL_law_373 ?_
  refine la_X1_mix S ⟨Nat.le_of_ble_eq_true rfl, Nat.le_of_ble_eq_true rfl⟩ hK hP hD hS hA hl.1 (Nat.le_of_ble_eq_true rfl) dL_law_374 ⟨Nat.le_of_ble_eq_true rfl, Nat.le_of_ble_eq_true rfl⟩ (fun H locs hP hD hS => ?_)
  have hq := pl_mix hR (xs (nI i + 1).toNatClampNeg) (xs (nI i + 2).toNatClampNeg)
  refine lv_icmp_eq (tgt := 382) hx hb dL_law_377 (by decide) (fun c1 => ?_) (fun c1 => ?_)
  · exact KK _ _ _ _ _ _ ls hq.2 hP hD hS hl
  · exact absurd hq.1 c1
end
section
/-! the law's loop and its start -/
theorem la_go {i L : Nat} (hL : L ≤ 192) (hi : i ≤ L) (h : ¬ (nI L - 3) < nI i) : i + 3 ≤ L := by
  have h1 := Int32.not_lt.mp h
  rw [Int32.le_iff_toInt_le, nI_toInt (by omega), show (3 : Int32) = nI 3 from rfl, pk_sub_toInt (by omega) (by omega)] at h1
  omega
set_option maxHeartbeats 4000000 in
set_option maxRecDepth 100000 in
theorem la_loop {p : Program} {l : Launch} {e : Env} {s : State} {m : MethodId} {below : List Frame} {meth : Method} {c : Code} {b L : Nat} {xs : Nat → Int32} {D : va_G} {x0 xw m0 mw mc : Nat} {dS dW dK : ClassId} {g : Nat → Int32} (hL : L ≤ 192) (C0 : lw_At p s m meth c b L xs) (hK : va_K D vwCl [(dS, .short), (dW, .int), (dK, .int)] s) :
    ∀ (n i : Nat), i ≤ L → L < i + n → ∀ (f : Nat → Int32) (h : Int32) (fm : Nat → Int32) (k : Int32) (H : Heap) (locs : List Loc) (ls : Array Slot), hm_Rel f h fm g k → va_P D vwCl [(x0, .inr (0, [.ref xw, .int (h)])), (xw, .inl (dS, 16, .inl (f))), (m0, .inr (1, [.ref mw, .ref mc, .int (k)])), (mw, .inl (dW, 16, .inl (fm))), (mc, .inl (dK, 256, .inl (g)))] H → va_D (fun q : Nat => s.heap.size ≤ q) [(x0, .inr (0, [.ref xw, .int (h)])), (xw, .inl (dS, 16, .inl (f))), (m0, .inr (1, [.ref mw, .ref mc, .int (k)])), (mw, .inl (dW, 16, .inl (fm))), (mc, .inl (dK, 256, .inl (g)))] → va_S (fun q : Nat => s.heap.size ≤ q) s.heap H locs → lv_has ls 4 [(0, .ref b), (1, .ref x0), (2, .ref m0), (3, .int (nI i))] → W p l e room_1 s m #[Value.ref b] below meth c H locs 5 293 (lw_Z below #[Value.ref b] s) (F0 m 18 ls []) := by
  intro n
  induction n with
  | zero => intro i hi hn; omega
  | succ n ih =>
    intro i hi hn f h fm k H locs ls hR hP hD hS hl
    obtain ⟨hx, hb, hr, hml, hown, hts0, hX, hbl, hlocks, hgv⟩ := id C0
    have hbA : ¬ (fun q : Nat => s.heap.size ≤ q) b := Nat.not_le.mpr hbl
    refine lv_iload_n hx hb dL_law_18 rfl (lv_at hl 3 rfl) ?_
    refine lv_aload_n hx hb dL_law_19 rfl (lv_at hl 0 rfl) ?_
    refine va_slen hx hb hX hbl hbA hS dL_law_20 ?_
    refine lv_iconst (v := 3) hx hb dL_law_21 (by decide) ?_
    refine lv_isub hx hb dL_law_22 ?_
    refine lv_icmp_gt (tgt := 388) hx hb dL_law_23 (by decide) (fun c1 => ?_) (fun c1 => ?_)
    · refine lv_iconst (v := 1) hx hb dL_law_388 (by decide) ?_
      refine va_forget hS.2.2 ?_
      refine W.widen (k := 600000) (n := 7290000) (Nat.le_of_ble_eq_true rfl) (Nat.le_of_ble_eq_true rfl) ?_
      exact lw_ret hx hb hr hlocks dL_law_389
    · have hi3 : i + 3 ≤ L := la_go hL hi c1
      have KK : la_K p l e s m below meth c b D x0 xw m0 mw mc dS dW dK g i := by
        intro f h fm k H locs ls hR hP hD hS hl
        refine lv_iinc (v := nI (i + 3)) (lv' := [(3, .int (nI (i + 3))), (0, .ref b), (1, .ref x0), (2, .ref m0)]) hx hb dL_law_382 hl (k := 3) rfl (nI_add i 3) (by decide) rfl (fun ls hl => ?_)
        refine lv_goto (tgt := 18) hx hb dL_law_385 (by decide) ?_
        exact ih (i + 3) hi3 (by omega) f h fm k H locs ls hR hP hD hS (lv_sub hl [1, 2, 3, 0] rfl)
      refine lv_aload_n hx hb dL_law_26 rfl (lv_at hl 0 rfl) ?_
      refine lv_iload_n hx hb dL_law_27 rfl (lv_at hl 3 rfl) ?_
      refine va_sld hx hb hX hbl hbA hS (vp_in_nI (by omega) (by omega)) dL_law_28 ?_
      refine lv_bipush (v := 15) hx hb dL_law_29 (by decide) ?_
      refine lv_iand hx hb dL_law_31 ?_
      obtain ⟨j, hj, ej⟩ := pk_andE (xs (nI i).toNatClampNeg) (m := 15) 4 (by decide)
      rw [ej]
      clear ej
      match j, hj with
      | 0, _ =>
        refine lv_tableIn (off := 64) (tgt := 96) hx hb dL_law_32 (by decide) (by decide) (by decide) (by decide) ?_
        exact la_case0 hL C0 hi3 hK hR hP hD hS hl KK
      | 1, _ =>
        refine lv_tableIn (off := 97) (tgt := 129) hx hb dL_law_32 (by decide) (by decide) (by decide) (by decide) ?_
        exact la_case1 hL C0 hi3 hK hR hP hD hS hl KK
      | 2, _ =>
        refine lv_tableIn (off := 130) (tgt := 162) hx hb dL_law_32 (by decide) (by decide) (by decide) (by decide) ?_
        exact la_case2 hL C0 hi3 hK hR hP hD hS hl KK
      | 3, _ =>
        refine lv_tableIn (off := 153) (tgt := 185) hx hb dL_law_32 (by decide) (by decide) (by decide) (by decide) ?_
        exact la_case3 hL C0 hi3 hK hR hP hD hS hl KK
      | 4, _ =>
        refine lv_tableIn (off := 176) (tgt := 208) hx hb dL_law_32 (by decide) (by decide) (by decide) (by decide) ?_
        exact la_case4 hL C0 hi3 hK hR hP hD hS hl KK
      | 5, _ =>
        refine lv_tableIn (off := 199) (tgt := 231) hx hb dL_law_32 (by decide) (by decide) (by decide) (by decide) ?_
        exact la_case5 hL C0 hi3 hK hR hP hD hS hl KK
      | 6, _ =>
        refine lv_tableIn (off := 212) (tgt := 244) hx hb dL_law_32 (by decide) (by decide) (by decide) (by decide) ?_
        exact la_case6 hL C0 hi3 hK hR hP hD hS hl KK
      | 7, _ =>
        refine lv_tableIn (off := 225) (tgt := 257) hx hb dL_law_32 (by decide) (by decide) (by decide) (by decide) ?_
        exact la_case7 hL C0 hi3 hK hR hP hD hS hl KK
      | 8, _ =>
        refine lv_tableIn (off := 238) (tgt := 270) hx hb dL_law_32 (by decide) (by decide) (by decide) (by decide) ?_
        exact la_case8 hL C0 hi3 hK hR hP hD hS hl KK
      | 9, _ =>
        refine lv_tableIn (off := 261) (tgt := 293) hx hb dL_law_32 (by decide) (by decide) (by decide) (by decide) ?_
        exact la_case9 hL C0 hi3 hK hR hP hD hS hl KK
      | 10, _ =>
        refine lv_tableIn (off := 294) (tgt := 326) hx hb dL_law_32 (by decide) (by decide) (by decide) (by decide) ?_
        exact la_case10 hL C0 hi3 hK hR hP hD hS hl KK
      | 11, _ =>
        refine lv_tableIn (off := 317) (tgt := 349) hx hb dL_law_32 (by decide) (by decide) (by decide) (by decide) ?_
        exact la_case11 hL C0 hi3 hK hR hP hD hS hl KK
      | 12, _ =>
        refine lv_tableOut (tgt := 382) hx hb dL_law_32 (by decide) (by decide) ?_
        exact KK _ _ _ _ _ _ ls hR hP hD hS hl
      | 13, _ =>
        refine lv_tableOut (tgt := 382) hx hb dL_law_32 (by decide) (by decide) ?_
        exact KK _ _ _ _ _ _ ls hR hP hD hS hl
      | 14, _ =>
        refine lv_tableOut (tgt := 382) hx hb dL_law_32 (by decide) (by decide) ?_
        exact KK _ _ _ _ _ _ ls hR hP hD hS hl
      | 15, _ =>
        refine lv_tableOut (tgt := 382) hx hb dL_law_32 (by decide) (by decide) ?_
        exact KK _ _ _ _ _ _ ls hR hP hD hS hl
      | j + 16, hj => exact absurd hj (by omega)
set_option maxHeartbeats 4000000 in
set_option maxRecDepth 100000 in
/-- THE LAW, from its entry -/
theorem whole_start {p : Program} {e : Env} {s : State} {m : MethodId} {below : List Frame} {meth : Method} {c : Code} (l : Launch) {b L : Nat} {xs : Nat → Int32} (hL : L ≤ 192) (C0 : lw_At p s m meth c b L xs) : W p l e room_1 s m #[Value.ref b] below meth c s.heap [] 0 0 (lw_Z below #[Value.ref b] s) (entryFrame m ([Value.ref b] : List Value).toArray 4) := by
  obtain ⟨hx, hb, hr, hml, hown, hts0, hX, hbl, hlocks, hgv⟩ := id C0
  have hts : ∀ w ∈ lw_all, w.before #[Value.ref b] s = true := fun w h => hts0 w (lw_all_tbl h)
  have S : CallFix p m c cL_law 4 s #[Value.ref b] lw_all R_law := ⟨hx, hb, hml, hown, hts⟩
  have hA : ∀ q : Nat, s.heap.size ≤ q → (fun q : Nat => s.heap.size ≤ q) q := fun _ h => h
  have hbA : ¬ (fun q : Nat => s.heap.size ≤ q) b := Nat.not_le.mpr hbl
  obtain ⟨c0_, iS0, hKn0⟩ := u_known (C := RX0) (T := TX0) (N := 2) (n := 2) hts0 (fun w h => lw_all_tbl (in_X0 w h)) (hts _ q21)
  obtain ⟨c1_, iS1, hKn1⟩ := u_known (C := RX1) (T := TX1) (N := 3) (n := 3) hts0 (fun w h => lw_all_tbl (in_X1 w h)) (hts _ q131)
  obtain ⟨D, hKc⟩ : ∃ D : va_G, ∀ (k : Nat) (q : vw_C), vwCl[k]? = some q → u_Kn s q.1 q.2.1 q.2.2 (D.1 k) (D.2 k) := by
    refine ⟨(fun k => if k = 0 then c0_ else c1_, fun k => if k = 0 then iS0 else iS1), ?_⟩
    intro k q hq
    match k, hq with
    | 0, hq => cases hq; exact hKn0
    | 1, hq => cases hq; exact hKn1
    | k + 2, hq => simp [vwCl] at hq
  have hS : va_S (fun q : Nat => s.heap.size ≤ q) s.heap s.heap [] := va_S.rf
  have hK : va_K D vwCl [] s := ⟨hKc, fun k q h => by simp at h⟩
  have hP : va_P D vwCl [] s.heap := fun k q h => by simp at h
  have hD : va_D (fun q : Nat => s.heap.size ≤ q) [] := ⟨fun i j p q h => by simp at h, fun k q h => by simp at h⟩
  have hl := lv_entry ([.ref b]) (n := 4) (Nat.le_of_ble_eq_true rfl)
  rw [lg_entry_eq]
  generalize (lg_sl ([.ref b]) ++ List.replicate (4 - (lg_sl ([.ref b])).length) Slot.unset).toArray = ls at hl ⊢
  have hl : lv_has ls 4 [(0, .ref b)] := hl
  refine va_new (ci := 0) (fs := [.null, .int 0]) (C := RX0) (T := TX0) (N := 2) hx hb hts in_X0 tyX0 tyX0_ok hown (hts _ q20) (hts _ q21) (hts _ q18) hK hP hD hS hA rfl (fun j hj => by rcases (show j = 0 ∨ j = 1 by omega) with rfl | rfl <;> rfl) (Nat.le_of_ble_eq_true rfl) (Nat.le_of_ble_eq_true rfl) dL_law_0 (fun x0 H hP hD hS => ?_)
  have hP : va_P D vwCl [(x0, .inr (0, [.null, .int 0]))] H := hP
  have hD : va_D (fun q : Nat => s.heap.size ≤ q) [(x0, .inr (0, [.null, .int 0]))] := hD
  refine W.widen (k := 1) (n := 2) (by omega) (by omega) ?_
  refine lv_dup hx hb dL_law_3 rfl ?_
  have hFc := va_free (wc := [(x0, .inr (0, [.null, .int 0]))]) hD hS hA [0] rfl
  refine va_callv (va_runI (As := []) (rest := [.ref x0]) S (mt_X0_init l D x0 H.size) (cwI 0 hts (lw_meth q24) rfl rfl rfl (hts _ q18) (hts _ q22) (hts _ q23) rfl (by decide +kernel) ⟨Nat.le_of_ble_eq_true rfl, Nat.le_of_ble_eq_true rfl⟩) ⟨fun a U g mk q => by obtain ⟨q0, q1, qP, qK, qD⟩ := q; exact ⟨q0, q1, qP, va_K.moved (u := U) (U := U.calling g mk a) (Vm.Alike.refl U.vm) qK, qD⟩, fun U hU hW => ⟨rfl, by rw [hU], by rw [hU]; exact hP, va_K.moved hW.alike hK, hD.weaken (fun _ _ _ _ => trivial)⟩⟩ rfl rfl hl.1 rfl (lv_room (Nat.le_of_ble_eq_true rfl)) dL_law_4 ⟨Nat.le_of_ble_eq_true rfl, Nat.le_of_ble_eq_true rfl⟩) hS (fun q _ h => hFc q h) hFc (fun u t H1 locs ht hvm hw hB hz1 hk1 hS => ?_)
  obtain ⟨xw, dS⟩ := u
  obtain ⟨hP1, hK1, hD1⟩ := hB
  rw [ht] at hP1
  have hK := va_K.moved hvm.symm hK1
  have hD := hD1.weaken (fun _ q _ h => hFc q.1 h)
  generalize H1 = H at hP1 hS ⊢
  have hP : va_P D vwCl [(x0, .inr (0, [.ref xw, .int 0])), (xw, .inl (dS, 16, .inl (fun _ => 0)))] H := hP1
  have hD : va_D (fun q : Nat => s.heap.size ≤ q) [(x0, .inr (0, [.ref xw, .int 0])), (xw, .inl (dS, 16, .inl (fun _ => 0)))] := hD
  have hK : va_K D vwCl [(dS, .short)] s := hK
  refine W.widen (k := 2) (n := 18) (by omega) (by omega) ?_
  refine lv_astore_n (lv' := [(1, .ref x0), (0, .ref b)]) hx hb dL_law_7 rfl hl (by decide) rfl (fun ls hl => ?_)
  refine va_new (ci := 1) (fs := [.null, .null, .int 0]) (C := RX1) (T := TX1) (N := 3) hx hb hts in_X1 tyX1 tyX1_ok hown (hts _ q130) (hts _ q131) (hts _ q19) hK hP hD hS hA rfl (fun j hj => by rcases (show j = 0 ∨ j = 1 ∨ j = 2 by omega) with rfl | rfl | rfl <;> rfl) (Nat.le_of_ble_eq_true rfl) (Nat.le_of_ble_eq_true rfl) dL_law_8 (fun m0 H hP hD hS => ?_)
  have hP : va_P D vwCl [(x0, .inr (0, [.ref xw, .int 0])), (xw, .inl (dS, 16, .inl (fun _ => 0))), (m0, .inr (1, [.null, .null, .int 0]))] H := hP
  have hD : va_D (fun q : Nat => s.heap.size ≤ q) [(x0, .inr (0, [.ref xw, .int 0])), (xw, .inl (dS, 16, .inl (fun _ => 0))), (m0, .inr (1, [.null, .null, .int 0]))] := hD
  refine W.widen (k := 3) (n := 21) (by omega) (by omega) ?_
  refine lv_dup hx hb dL_law_11 rfl ?_
  have hPc := hP.sub (ws' := [(m0, .inr (1, [.null, .null, .int 0]))]) [2] rfl
  have hDc := hD.sub (ws' := [(m0, .inr (1, [.null, .null, .int 0]))]) [2] (by decide) rfl
  have hKc := hK.sub (tys' := []) [] rfl
  have hFc := va_free (wc := [(m0, .inr (1, [.null, .null, .int 0]))]) hD hS hA [2] rfl
  refine va_callv (va_runI (As := []) (rest := [.ref m0]) S (mt_X1_init l D m0 H.size) (cwI 0 hts (lw_meth q134) rfl rfl rfl (hts _ q19) (hts _ q132) (hts _ q133) rfl (by decide +kernel) ⟨Nat.le_of_ble_eq_true rfl, Nat.le_of_ble_eq_true rfl⟩) ⟨fun a U g mk q => by obtain ⟨q0, q1, qP, qK, qD⟩ := q; exact ⟨q0, q1, qP, va_K.moved (u := U) (U := U.calling g mk a) (Vm.Alike.refl U.vm) qK, qD⟩, fun U hU hW => ⟨rfl, by rw [hU], by rw [hU]; exact hPc, va_K.moved hW.alike hKc, hDc.weaken (fun _ _ _ _ => trivial)⟩⟩ rfl rfl hl.1 rfl (lv_room (Nat.le_of_ble_eq_true rfl)) dL_law_12 ⟨Nat.le_of_ble_eq_true rfl, Nat.le_of_ble_eq_true rfl⟩) hS (fun q _ h => hFc q h) hFc (fun u t H1 locs ht hvm hw hB hz1 hk1 hS => ?_)
  obtain ⟨mw, mc, dW, dK⟩ := u
  obtain ⟨hP1, hK1, hD1⟩ := hB
  rw [ht] at hP1
  have hK1 := va_K.moved hvm.symm hK1
  obtain ⟨hP, hD⟩ := va_join (wr := [(x0, .inr (0, [.ref xw, .int 0])), (xw, .inl (dS, 16, .inl (fun _ => 0)))]) (w1 := mo_WI m0 (mw, mc, dW, dK)) hP hD [2] [0, 1] rfl rfl (by decide) (by decide) hk1 hFc hP1 hD1
  have hK : va_K D vwCl [(dS, .short), (dW, .int), (dK, .int)] s := hK.app hK1
  refine W.widen (k := 5) (n := 293) (by omega) (by omega) ?_
  refine lv_astore_n (lv' := [(2, .ref m0), (1, .ref x0), (0, .ref b)]) hx hb dL_law_15 rfl hl (by decide) rfl (fun ls hl => ?_)
  refine lv_iconst (v := 0) hx hb dL_law_16 (by decide) ?_
  refine lv_istore_n (lv' := [(3, .int 0), (2, .ref m0), (1, .ref x0), (0, .ref b)]) hx hb dL_law_17 rfl hl (by decide) rfl (fun ls hl => ?_)
  exact la_loop hL C0 hK (L + 1) 0 (Nat.zero_le L) (by omega) _ _ _ _ _ _ ls pl_init hP hD hS (lv_sub hl [3, 2, 1, 0] rfl)
end
section
set_option maxHeartbeats 4000000 in
theorem lw_walk (l : Launch) (b : Addr) (xs : List Int32) : MetFree l x (headSpec (Jvm.Cond.code x code maxLocals ret :: tables_1) room_1) (lw_P b xs) (fun _ _ _ _ _ => True) lw_Q := by
  refine MetFree.of_bodyS (code := code) (maxLocals := maxLocals) (ret := ret) (by decide) ?_ ?_
  · intro args s m h hn
    obtain ⟨meth, c, h1, h2, h3, h4, h5, h6, -, -⟩ := Cond.code_spec hn (atoms_spec (ws := Jvm.Cond.code x code maxLocals ret :: tables_1) h _ List.mem_cons_self)
    exact ⟨meth, c, h1, h2, h3, h4, h5, h6⟩
  · intro p e s m args below meth c s₁ B hml0 hP _
    obtain ⟨rfl, hx, hbd, hgv⟩ := hP
    obtain ⟨scr, harrAt, hlist, hof, hsmall⟩ := hx
    obtain ⟨hcb, hkn, -, -⟩ := State.arrayAt?_spec harrAt
    have hown : s.vm.findClass R_law = some m.cls := findClass_of_methodNamed B.named
    have hts0 : ∀ c ∈ (Jvm.Cond.code x code maxLocals ret :: tables_1), c.before #[Value.ref b] s = true := atoms_spec (ws := Jvm.Cond.code x code maxLocals ret :: tables_1) B.pre
    have hts : ∀ w ∈ lw_tbl, w.before #[Value.ref b] s = true := k2_hts_sels lw_privs (fun w hw => hts0 w (List.mem_cons_of_mem _ hw)) lw_privs_ok
    have hml : c.maxLocals = 4 := B.maxLocals_eq (hts0 _ List.mem_cons_self)
    have X₀ : Stand p l e room_1 s m #[Value.ref b] below meth c s₁ [] 0 0 := Stand.of_body B
    have hh0 : s₁.heap = s.heap := by rw [B.state]; rfl
    have hsz : scr.slots.size = xs.length := by rw [← Array.length_toList, hlist, List.length_map]
    have hval : ∀ j : Nat, j < xs.length → scr.slots[j]? = some (.int (xs.getD j 0)) := fun j hj => by
      rw [← Array.getElem?_toList, hlist]
      simp [hj]
    have hbl : b < s.heap.size := (Array.getElem?_eq_some_iff.mp hcb).1
    have hX : va_X b xs.length (fun j => xs.getD j 0) s s.heap := ⟨scr, hcb, hof, hkn, hsz, hval⟩
    have K : W p l e room_1 s m #[Value.ref b] below meth c s₁.heap [] 0 0 (lw_Z below #[Value.ref b] s) (entryFrame m ([Value.ref b] : List Value).toArray 4) := by
      rw [hh0]
      exact whole_start l hbd ⟨B.exec, B.bytes, B.returns, hml, hown, hts, hX, hbl, B.notSynchronized, hgv⟩
    obtain ⟨t, a1, o, b1, b2, b3⟩ := K s₁ rfl X₀
    exact ⟨t, o, a1, b1, b2, b3⟩
theorem lw_pre_spec {args : Array Value} {s : State} (h : (Jvm.Cond.and given_1 narrow_1).before args s = true) (hr : rest_1_c.before args s = true) : ∃ (b : Addr) (xs : List Int32), lw_P b xs args s := by
  have hs := flat_of_before _ h
  have hq := flat_of_before _ hr
  have hc : (Cond.count 1).before args s = true := hs _ (by decide +kernel)
  have harr : (Cond.arrayOf (.arg 0) .int).before args s = true := hs _ (by decide +kernel)
  have hle : (Cond.le (.length (.arg 0)) (.int 192)).before args s = true := hs _ (by decide +kernel)
  have hlen : (Cond.isInt (.length (.arg 0))).before args s = true := hq _ (by decide +kernel)
  have hall : (Cond.all (.arg 0) (.isInt (.elem (.arg 0) (.index 0)))).before args s = true := hq _ (by decide +kernel)
  obtain ⟨b, xs, hb, hx⟩ := State.ints_of_pre rfl harr hlen hall
  have hsm : xs.length < 2 ^ 31 := hx.choose_spec.2.2.2
  have hev : (Term.length (.arg 0)).eval args s none [] s = some (.int xs.length.toInt32) := hx.length_eval hb
  have hv := Cond.le_ints hev (show (Term.int 192).eval args s none [] s = some (.int 192) from rfl)
  have hd : xs.length.toInt32 ≤ 192 := by
    simpa [Cond.before, Cond.holds, hv] using hle
  have hN : xs.length ≤ 192 := (Int32.ofNat_le_ofNat hsm (by decide)).mp (show Int32.ofNat xs.length ≤ Int32.ofNat 192 from hd)
  exact ⟨b, xs, Cond.one_arg hc (show args[0]? = some (.ref b) from hb), hx, hN, h⟩
theorem lw_comes (l : Launch) : Comes l x (Jvm.Cond.code x code maxLocals ret :: tables_1) room_1 (fun tb e args s => Calls_1 tb e args s ∧ rest_1 tb e args s ∧ Pre_1 tb e args s)
    (fun _ _ args s o t => lw_Q args s o t) := by
  intro p e ha hc hk s m args below hf hfit hheap happ hpre
  obtain ⟨b, xs, hP⟩ := lw_pre_spec hpre.2.2 hpre.2.1
  obtain ⟨k, o, h1, h2, h3, hQ⟩ := lw_walk l b xs p e ha hc hk s m args below hf ((Spec.applies_iff_loose hf).mp happ).1 hP trivial
  exact ⟨k, o, h1, h2, h3, hQ⟩
theorem lw_frame {s t : State} {o : Outcome} {args : Array Value} (h : Framed s o t [] 600000 7290000) :
    Framed s o t (fieldLocs frame_1_writes args s ++ arrayLocs frame_1_arrays args s ++ staticLocs frame_1_statics s) 600000 7290000 := h
theorem lw_limb (L : Cond) (hL : ∀ (args : Array Value) (s t : State), L.after args s (.returned (some (.int 1))) t = true) :
    ArmFor flags0 classFile x code maxLocals ret World_1 tables_1 room_1 Calls_1 rest_1 Pre_1
      (fun tb e a s o t => postC L tb e a s o t ∧ Framed s o t (fieldLocs frame_1_writes a s ++ arrayLocs frame_1_arrays a s ++ staticLocs frame_1_statics s) 600000 7290000) := by
  intro l _ _ _ p e ha hc hk s m args below hf hfit hheap happ hpre
  obtain ⟨k, o, h1, h2, h3, rfl, hF⟩ := lw_comes l p e ha hc hk s m args below hf hfit hheap happ hpre
  exact ⟨k, _, h1, h2, h3, hL args s _, lw_frame hF⟩
theorem i_vc : Claimed_1_1 ∧ Claimed_1_2 := ⟨lw_limb limb_1_1 (fun args s t => by simp [limb_1_1, Cond.after, Cond.holds, Cond.value]), lw_limb limb_1_2 (fun args s t => Cond.after_iff.mpr (by
  first | (rw [show limb_1_2 = Cond.eq .result (.int 1) from rfl, Cond.eq_ints (x := 1) (y := 1) rfl rfl]; simp; done) | (simp [limb_1_2, Cond.value, Term.eval]; done)))⟩
end
