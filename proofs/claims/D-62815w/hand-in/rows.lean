section
-- ===== PART A: goes FIRST, ahead of the names: the tables' words, and 'selects' of the private methods out of them =====
/-- a private method of a class that the tables say can be made, by its rows of tables_1 -/
def lw_okq (q : MethodName × Nat) : Prop := (q.1.cls ≠ "java/lang/invoke/MethodHandle" ∧ q.1.cls ≠ "java/lang/invoke/VarHandle") ∧ Cond.instantiable q.1.cls q.2 ∈ tables_1 ∧ Cond.privateMethod q.1 ∈ tables_1 ∧ Cond.instanceMethod q.1 ∈ tables_1
set_option maxRecDepth 100000
theorem lw_t1 {w : Cond} (h : w ∈ tables_1_1) : w ∈ tables_1 := List.mem_append_left _ h
theorem lw_t2 {w : Cond} (h : w ∈ tables_1_2) : w ∈ tables_1 := List.mem_append_right _ h
theorem lw_p0 : lw_okq (⟨"HilbertBasis", "sumOf", "(I)I"⟩, 10) := ⟨⟨by decide +kernel, by decide +kernel⟩, lw_t1 (List.mem_of_getElem? (i := 4) rfl), lw_t1 (List.mem_of_getElem? (i := 66) rfl), lw_t1 (List.mem_of_getElem? (i := 67) rfl)⟩
theorem lw_p1 : lw_okq (⟨"HilbertBasis", "digit", "(II)I"⟩, 10) := ⟨⟨by decide +kernel, by decide +kernel⟩, lw_t1 (List.mem_of_getElem? (i := 4) rfl), lw_t1 (List.mem_of_getElem? (i := 70) rfl), lw_t1 (List.mem_of_getElem? (i := 71) rfl)⟩
theorem lw_p2 : lw_okq (⟨"HilbertBasis", "refresh", "()V"⟩, 10) := ⟨⟨by decide +kernel, by decide +kernel⟩, lw_t1 (List.mem_of_getElem? (i := 4) rfl), lw_t1 (List.mem_of_getElem? (i := 78) rfl), lw_t1 (List.mem_of_getElem? (i := 79) rfl)⟩
theorem lw_p3 : lw_okq (⟨"HilbertBasis", "gather", "()V"⟩, 10) := ⟨⟨by decide +kernel, by decide +kernel⟩, lw_t1 (List.mem_of_getElem? (i := 4) rfl), lw_t1 (List.mem_of_getElem? (i := 82) rfl), lw_t1 (List.mem_of_getElem? (i := 83) rfl)⟩
theorem lw_p4 : lw_okq (⟨"HilbertBasis", "hasPart", "(I)Z"⟩, 10) := ⟨⟨by decide +kernel, by decide +kernel⟩, lw_t1 (List.mem_of_getElem? (i := 4) rfl), lw_t1 (List.mem_of_getElem? (i := 86) rfl), lw_t1 (List.mem_of_getElem? (i := 87) rfl)⟩
theorem lw_p5 : lw_okq (⟨"HilbertBasis", "isPart", "(II)Z"⟩, 10) := ⟨⟨by decide +kernel, by decide +kernel⟩, lw_t1 (List.mem_of_getElem? (i := 4) rfl), lw_t1 (List.mem_of_getElem? (i := 90) rfl), lw_t1 (List.mem_of_getElem? (i := 91) rfl)⟩
theorem lw_p6 : lw_okq (⟨"HilbertBasis", "grow", "()V"⟩, 10) := ⟨⟨by decide +kernel, by decide +kernel⟩, lw_t1 (List.mem_of_getElem? (i := 4) rfl), lw_t1 (List.mem_of_getElem? (i := 94) rfl), lw_t1 (List.mem_of_getElem? (i := 95) rfl)⟩
theorem lw_p7 : lw_okq (⟨"HilbertBasis", "growRow", "(I)V"⟩, 10) := ⟨⟨by decide +kernel, by decide +kernel⟩, lw_t1 (List.mem_of_getElem? (i := 4) rfl), lw_t1 (List.mem_of_getElem? (i := 98) rfl), lw_t1 (List.mem_of_getElem? (i := 99) rfl)⟩
theorem lw_p8 : lw_okq (⟨"HilbertBasis", "sortList", "()V"⟩, 10) := ⟨⟨by decide +kernel, by decide +kernel⟩, lw_t1 (List.mem_of_getElem? (i := 4) rfl), lw_t1 (List.mem_of_getElem? (i := 102) rfl), lw_t1 (List.mem_of_getElem? (i := 103) rfl)⟩
theorem lw_p9 : lw_okq (⟨"HilbertBasis", "place", "(I)I"⟩, 10) := ⟨⟨by decide +kernel, by decide +kernel⟩, lw_t1 (List.mem_of_getElem? (i := 4) rfl), lw_t1 (List.mem_of_getElem? (i := 106) rfl), lw_t1 (List.mem_of_getElem? (i := 107) rfl)⟩
theorem lw_p10 : lw_okq (⟨"HilbertBasis", "sizeOf", "(I)I"⟩, 10) := ⟨⟨by decide +kernel, by decide +kernel⟩, lw_t1 (List.mem_of_getElem? (i := 4) rfl), lw_t1 (List.mem_of_getElem? (i := 126) rfl), lw_t1 (List.mem_of_getElem? (i := 127) rfl)⟩
theorem lw_p11 : lw_okq (⟨"HilbertBasis", "addUnit", "(II)V"⟩, 10) := ⟨⟨by decide +kernel, by decide +kernel⟩, lw_t1 (List.mem_of_getElem? (i := 4) rfl), lw_t1 (List.mem_of_getElem? (i := 134) rfl), lw_t1 (List.mem_of_getElem? (i := 135) rfl)⟩
theorem lw_p12 : lw_okq (⟨"HilbertBasis", "take", "(IZ)I"⟩, 10) := ⟨⟨by decide +kernel, by decide +kernel⟩, lw_t1 (List.mem_of_getElem? (i := 4) rfl), lw_t1 (List.mem_of_getElem? (i := 142) rfl), lw_t1 (List.mem_of_getElem? (i := 143) rfl)⟩
theorem lw_p13 : lw_okq (⟨"HilbertBasisModel", "badCode", "(I)Z"⟩, 7) := ⟨⟨by decide +kernel, by decide +kernel⟩, lw_t1 (List.mem_of_getElem? (i := 158) rfl), lw_t1 (List.mem_of_getElem? (i := 202) rfl), lw_t1 (List.mem_of_getElem? (i := 203) rfl)⟩
theorem lw_p14 : lw_okq (⟨"HilbertBasisModel", "balanced", "(I)Z"⟩, 7) := ⟨⟨by decide +kernel, by decide +kernel⟩, lw_t1 (List.mem_of_getElem? (i := 158) rfl), lw_t1 (List.mem_of_getElem? (i := 206) rfl), lw_t1 (List.mem_of_getElem? (i := 207) rfl)⟩
theorem lw_p15 : lw_okq (⟨"HilbertBasisModel", "digit", "(II)I"⟩, 7) := ⟨⟨by decide +kernel, by decide +kernel⟩, lw_t1 (List.mem_of_getElem? (i := 158) rfl), lw_t1 (List.mem_of_getElem? (i := 210) rfl), lw_t1 (List.mem_of_getElem? (i := 211) rfl)⟩
def lw_privs_1 : List (MethodName × Nat) := [(⟨"HilbertBasis", "sumOf", "(I)I"⟩, 10), (⟨"HilbertBasis", "digit", "(II)I"⟩, 10), (⟨"HilbertBasis", "refresh", "()V"⟩, 10), (⟨"HilbertBasis", "gather", "()V"⟩, 10), (⟨"HilbertBasis", "hasPart", "(I)Z"⟩, 10), (⟨"HilbertBasis", "isPart", "(II)Z"⟩, 10), (⟨"HilbertBasis", "grow", "()V"⟩, 10), (⟨"HilbertBasis", "growRow", "(I)V"⟩, 10), (⟨"HilbertBasis", "sortList", "()V"⟩, 10), (⟨"HilbertBasis", "place", "(I)I"⟩, 10), (⟨"HilbertBasis", "sizeOf", "(I)I"⟩, 10), (⟨"HilbertBasis", "addUnit", "(II)V"⟩, 10), (⟨"HilbertBasis", "take", "(IZ)I"⟩, 10), (⟨"HilbertBasisModel", "badCode", "(I)Z"⟩, 7), (⟨"HilbertBasisModel", "balanced", "(I)Z"⟩, 7), (⟨"HilbertBasisModel", "digit", "(II)I"⟩, 7)]
theorem lw_r1 : ∀ q ∈ lw_privs_1, lw_okq q := List.forall_mem_cons.mpr ⟨lw_p0, List.forall_mem_cons.mpr ⟨lw_p1, List.forall_mem_cons.mpr ⟨lw_p2, List.forall_mem_cons.mpr ⟨lw_p3, List.forall_mem_cons.mpr ⟨lw_p4, List.forall_mem_cons.mpr ⟨lw_p5, List.forall_mem_cons.mpr ⟨lw_p6, List.forall_mem_cons.mpr ⟨lw_p7, List.forall_mem_cons.mpr ⟨lw_p8, List.forall_mem_cons.mpr ⟨lw_p9, List.forall_mem_cons.mpr ⟨lw_p10, List.forall_mem_cons.mpr ⟨lw_p11, List.forall_mem_cons.mpr ⟨lw_p12, List.forall_mem_cons.mpr ⟨lw_p13, List.forall_mem_cons.mpr ⟨lw_p14, List.forall_mem_cons.mpr ⟨lw_p15, fun _ h => absurd h List.not_mem_nil⟩⟩⟩⟩⟩⟩⟩⟩⟩⟩⟩⟩⟩⟩⟩⟩
theorem lw_p16 : lw_okq (⟨"HilbertBasisModel", "work", "()V"⟩, 7) := ⟨⟨by decide +kernel, by decide +kernel⟩, lw_t1 (List.mem_of_getElem? (i := 158) rfl), lw_t1 (List.mem_of_getElem? (i := 218) rfl), lw_t1 (List.mem_of_getElem? (i := 219) rfl)⟩
theorem lw_p17 : lw_okq (⟨"HilbertBasisModel", "alone", "(I)Z"⟩, 7) := ⟨⟨by decide +kernel, by decide +kernel⟩, lw_t1 (List.mem_of_getElem? (i := 158) rfl), lw_t1 (List.mem_of_getElem? (i := 222) rfl), lw_t1 (List.mem_of_getElem? (i := 223) rfl)⟩
theorem lw_p18 : lw_okq (⟨"HilbertBasisModel", "part", "(II)Z"⟩, 7) := ⟨⟨by decide +kernel, by decide +kernel⟩, lw_t1 (List.mem_of_getElem? (i := 158) rfl), lw_t1 (List.mem_of_getElem? (i := 226) rfl), lw_t1 (List.mem_of_getElem? (i := 227) rfl)⟩
theorem lw_p19 : lw_okq (⟨"HilbertBasisModel", "lastThree", "(II)I"⟩, 7) := ⟨⟨by decide +kernel, by decide +kernel⟩, lw_t1 (List.mem_of_getElem? (i := 158) rfl), lw_t2 (List.mem_of_getElem? (i := 10) rfl), lw_t2 (List.mem_of_getElem? (i := 11) rfl)⟩
theorem lw_p20 : lw_okq (⟨"HilbertBasisModel", "sums", "(I)V"⟩, 7) := ⟨⟨by decide +kernel, by decide +kernel⟩, lw_t1 (List.mem_of_getElem? (i := 158) rfl), lw_t2 (List.mem_of_getElem? (i := 18) rfl), lw_t2 (List.mem_of_getElem? (i := 19) rfl)⟩
theorem lw_p21 : lw_okq (⟨"HilbertBasisModel", "parts", "(I)I"⟩, 7) := ⟨⟨by decide +kernel, by decide +kernel⟩, lw_t1 (List.mem_of_getElem? (i := 158) rfl), lw_t2 (List.mem_of_getElem? (i := 22) rfl), lw_t2 (List.mem_of_getElem? (i := 23) rfl)⟩
theorem lw_p22 : lw_okq (⟨"HilbertBasisModel", "under", "(II)I"⟩, 7) := ⟨⟨by decide +kernel, by decide +kernel⟩, lw_t1 (List.mem_of_getElem? (i := 158) rfl), lw_t2 (List.mem_of_getElem? (i := 26) rfl), lw_t2 (List.mem_of_getElem? (i := 27) rfl)⟩
theorem lw_p23 : lw_okq (⟨"HilbertBasisModel", "spread", "(III)V"⟩, 7) := ⟨⟨by decide +kernel, by decide +kernel⟩, lw_t1 (List.mem_of_getElem? (i := 158) rfl), lw_t2 (List.mem_of_getElem? (i := 30) rfl), lw_t2 (List.mem_of_getElem? (i := 31) rfl)⟩
def lw_privs_2 : List (MethodName × Nat) := [(⟨"HilbertBasisModel", "work", "()V"⟩, 7), (⟨"HilbertBasisModel", "alone", "(I)Z"⟩, 7), (⟨"HilbertBasisModel", "part", "(II)Z"⟩, 7), (⟨"HilbertBasisModel", "lastThree", "(II)I"⟩, 7), (⟨"HilbertBasisModel", "sums", "(I)V"⟩, 7), (⟨"HilbertBasisModel", "parts", "(I)I"⟩, 7), (⟨"HilbertBasisModel", "under", "(II)I"⟩, 7), (⟨"HilbertBasisModel", "spread", "(III)V"⟩, 7)]
theorem lw_r2 : ∀ q ∈ lw_privs_2, lw_okq q := List.forall_mem_cons.mpr ⟨lw_p16, List.forall_mem_cons.mpr ⟨lw_p17, List.forall_mem_cons.mpr ⟨lw_p18, List.forall_mem_cons.mpr ⟨lw_p19, List.forall_mem_cons.mpr ⟨lw_p20, List.forall_mem_cons.mpr ⟨lw_p21, List.forall_mem_cons.mpr ⟨lw_p22, List.forall_mem_cons.mpr ⟨lw_p23, fun _ h => absurd h List.not_mem_nil⟩⟩⟩⟩⟩⟩⟩⟩
def lw_privs : List (MethodName × Nat) := lw_privs_1 ++ (lw_privs_2)
def lw_tbl : List Cond := k2_sels lw_privs ++ tables_1
theorem lw_privs_ok : ∀ q ∈ lw_privs, lw_okq q := by
  show ∀ q ∈ lw_privs_1 ++ (lw_privs_2), lw_okq q
  exact List.forall_mem_append.mpr ⟨lw_r1, lw_r2⟩
-- ===== ONE list of words for every method: the tables' words that hold all through a run =====
def lw_all : List Cond := lw_tbl.filter goodWord
/-- a word of the tables by its place: claim/WORDS.tsv -/
theorem lw_w {w : Cond} (i : Nat) (h : lw_tbl[i]? = some w) (g : goodWord w = true) : w ∈ lw_all := List.mem_filter.mpr ⟨List.mem_of_getElem? h, g⟩
theorem lw_all_tbl {w : Cond} (h : w ∈ lw_all) : w ∈ lw_tbl := (List.mem_filter.mp h).1
theorem lw_self : GoodIn lw_all lw_all := fun w h => ⟨h, good_of_word (List.mem_filter.mp h).2⟩
/-- a class's field words, by their places -/
theorem lw_in (ws : List Cond) (ps : List Nat) (hp : ws = ps.filterMap (fun i => lw_tbl[i]?)) (hg : ws.all goodWord = true) : ∀ w ∈ ws, w ∈ lw_all := by
  intro w h
  have h1 := List.all_eq_true.mp hg w h
  rw [hp] at h
  obtain ⟨i, -, hi⟩ := List.mem_filterMap.mp h
  exact lw_w i hi h1
/-- the words of a contract for the method y with code b, L locals, answer r -/
abbrev ws_ (y : MethodName) (b : ByteArray) (L : Nat) (r : Option FieldType) : List Cond := Cond.code y b L r :: lw_all
theorem lw_meth {y : MethodName} {b : ByteArray} {L : Nat} {r : Option FieldType} (h : Cond.code y b L r ∈ lw_all) : GoodIn lw_all (ws_ y b L r) := by
  intro w hw
  rcases List.mem_cons.mp hw with e | e
  · rw [e]
    exact lw_self _ h
  · exact lw_self _ e
theorem lw_app {a c : List Cond} (ha : ∀ w ∈ a, w ∈ lw_all) (hc : GoodIn lw_all c) : GoodIn lw_all (a ++ c) := by
  intro w hw
  rcases List.mem_append.mp hw with e | e
  · exact lw_self w (ha w e)
  · exact hc w e
/-- what a call through an object asks: cwV n hts (lw_V ..) -/
theorem lw_V {own : String} {idx : Nat} {C : String} {y : MethodName} {b : ByteArray} {L : Nat} {r : Option FieldType} (h1 : Cond.methodLink own idx y ∈ lw_all) (h2 : Cond.instanceMethod y ∈ lw_all) (h3 : Cond.selects C y y ∈ lw_all) (h4 : Cond.initialized C ∈ lw_all) (h5 : Cond.code y b L r ∈ lw_all) : GoodIn lw_all (wsV own idx C y (ws_ y b L r)) := by
  refine lw_app ?_ (lw_meth h5)
  intro w hw
  simp only [List.mem_cons, List.not_mem_nil, or_false] at hw
  rcases hw with e | e | e | e
  · rw [e]; exact h1
  · rw [e]; exact h2
  · rw [e]; exact h3
  · rw [e]; exact h4
/-- what a static call asks: va_cwS n hts (lw_S ..) -/
theorem lw_S {own : String} {idx : Nat} {y : MethodName} {b : ByteArray} {L : Nat} {r : Option FieldType} (h1 : Cond.methodLink own idx y ∈ lw_all) (h2 : Cond.static y ∈ lw_all) (h3 : Cond.initialized y.cls ∈ lw_all) (h4 : Cond.code y b L r ∈ lw_all) : GoodIn lw_all (va_wsS own idx y (ws_ y b L r)) := by
  refine lw_app ?_ (lw_meth h4)
  intro w hw
  simp only [List.mem_cons, List.not_mem_nil, or_false] at hw
  rcases hw with e | e | e
  · rw [e]; exact h1
  · rw [e]; exact h2
  · rw [e]; exact h3
/-- the words of a contract for a method WITH HANDLERS (hh: its table) -/
abbrev wsW_ (y : MethodName) (b : ByteArray) (L : Nat) (r : Option FieldType) (hh : List (Nat × Nat × Nat × Nat)) : List Cond := Cond.codeWith y b L r hh :: lw_all
theorem lw_methW {y : MethodName} {b : ByteArray} {L : Nat} {r : Option FieldType} {hh : List (Nat × Nat × Nat × Nat)} (h : Cond.codeWith y b L r hh ∈ lw_all) : GoodIn lw_all (wsW_ y b L r hh) := by
  intro w hw
  rcases List.mem_cons.mp hw with e | e
  · rw [e]
    exact lw_self _ h
  · exact lw_self _ e
/-- any list of words by their places (lw_in), good -/
theorem lw_good {ws : List Cond} (h : ∀ w ∈ ws, w ∈ lw_all) : GoodIn lw_all ws := fun w hw => lw_self w (h w hw)
/-- what a call of a method with handlers asks: vx_cwVW n hts (lw_VW ..), vx_cwSW n hts (lw_SW ..) -/
theorem lw_VW {own : String} {idx : Nat} {C : String} {y : MethodName} {b : ByteArray} {L : Nat} {r : Option FieldType} {hh : List (Nat × Nat × Nat × Nat)} (h1 : Cond.methodLink own idx y ∈ lw_all) (h2 : Cond.instanceMethod y ∈ lw_all) (h3 : Cond.selects C y y ∈ lw_all) (h4 : Cond.initialized C ∈ lw_all) (h5 : Cond.codeWith y b L r hh ∈ lw_all) : GoodIn lw_all (wsV own idx C y (wsW_ y b L r hh)) := by
  refine lw_app ?_ (lw_methW h5)
  intro w hw
  simp only [List.mem_cons, List.not_mem_nil, or_false] at hw
  rcases hw with e | e | e | e
  · rw [e]; exact h1
  · rw [e]; exact h2
  · rw [e]; exact h3
  · rw [e]; exact h4
theorem lw_SW {own : String} {idx : Nat} {y : MethodName} {b : ByteArray} {L : Nat} {r : Option FieldType} {hh : List (Nat × Nat × Nat × Nat)} (h1 : Cond.methodLink own idx y ∈ lw_all) (h2 : Cond.static y ∈ lw_all) (h3 : Cond.initialized y.cls ∈ lw_all) (h4 : Cond.codeWith y b L r hh ∈ lw_all) : GoodIn lw_all (va_wsS own idx y (wsW_ y b L r hh)) := by
  refine lw_app ?_ (lw_methW h4)
  intro w hw
  simp only [List.mem_cons, List.not_mem_nil, or_false] at hw
  rcases hw with e | e | e
  · rw [e]; exact h1
  · rw [e]; exact h2
  · rw [e]; exact h3
/-- a word by its place in its run of the tables -/
theorem lw_at {r : List Cond} (hr : ∀ w ∈ r, w ∈ lw_tbl) {w : Cond} (i : Nat) (h : r[i]? = some w) : w ∈ lw_tbl := hr w (List.mem_of_getElem? h)
theorem lw_g {w : Cond} (h : w ∈ lw_tbl) (g : goodWord w = true) : w ∈ lw_all := List.mem_filter.mpr ⟨h, g⟩
theorem lw_ms : ∀ w ∈ k2_sels lw_privs, w ∈ lw_tbl := fun w h => show w ∈ k2_sels lw_privs ++ tables_1 from List.mem_append_left _ h
theorem lw_m1 : ∀ w ∈ tables_1_1, w ∈ lw_tbl := fun w h => show w ∈ k2_sels lw_privs ++ tables_1 from List.mem_append_right (k2_sels lw_privs) (show w ∈ tables_1 from List.mem_append_left _ h)
theorem lw_m2 : ∀ w ∈ tables_1_2, w ∈ lw_tbl := fun w h => show w ∈ k2_sels lw_privs ++ tables_1 from List.mem_append_right (k2_sels lw_privs) (show w ∈ tables_1 from List.mem_append_right _ h)
theorem qs0 : (Cond.selects "HilbertBasis" ⟨"HilbertBasis", "sumOf", "(I)I"⟩ ⟨"HilbertBasis", "sumOf", "(I)I"⟩) ∈ lw_all := lw_g (lw_at lw_ms 0 rfl) rfl
theorem qs1 : (Cond.selects "HilbertBasis" ⟨"HilbertBasis", "digit", "(II)I"⟩ ⟨"HilbertBasis", "digit", "(II)I"⟩) ∈ lw_all := lw_g (lw_at lw_ms 1 rfl) rfl
theorem qs2 : (Cond.selects "HilbertBasis" ⟨"HilbertBasis", "refresh", "()V"⟩ ⟨"HilbertBasis", "refresh", "()V"⟩) ∈ lw_all := lw_g (lw_at lw_ms 2 rfl) rfl
theorem qs3 : (Cond.selects "HilbertBasis" ⟨"HilbertBasis", "gather", "()V"⟩ ⟨"HilbertBasis", "gather", "()V"⟩) ∈ lw_all := lw_g (lw_at lw_ms 3 rfl) rfl
theorem qs4 : (Cond.selects "HilbertBasis" ⟨"HilbertBasis", "hasPart", "(I)Z"⟩ ⟨"HilbertBasis", "hasPart", "(I)Z"⟩) ∈ lw_all := lw_g (lw_at lw_ms 4 rfl) rfl
theorem qs5 : (Cond.selects "HilbertBasis" ⟨"HilbertBasis", "isPart", "(II)Z"⟩ ⟨"HilbertBasis", "isPart", "(II)Z"⟩) ∈ lw_all := lw_g (lw_at lw_ms 5 rfl) rfl
theorem qs6 : (Cond.selects "HilbertBasis" ⟨"HilbertBasis", "grow", "()V"⟩ ⟨"HilbertBasis", "grow", "()V"⟩) ∈ lw_all := lw_g (lw_at lw_ms 6 rfl) rfl
theorem qs7 : (Cond.selects "HilbertBasis" ⟨"HilbertBasis", "growRow", "(I)V"⟩ ⟨"HilbertBasis", "growRow", "(I)V"⟩) ∈ lw_all := lw_g (lw_at lw_ms 7 rfl) rfl
theorem qs8 : (Cond.selects "HilbertBasis" ⟨"HilbertBasis", "sortList", "()V"⟩ ⟨"HilbertBasis", "sortList", "()V"⟩) ∈ lw_all := lw_g (lw_at lw_ms 8 rfl) rfl
theorem qs9 : (Cond.selects "HilbertBasis" ⟨"HilbertBasis", "place", "(I)I"⟩ ⟨"HilbertBasis", "place", "(I)I"⟩) ∈ lw_all := lw_g (lw_at lw_ms 9 rfl) rfl
theorem qs10 : (Cond.selects "HilbertBasis" ⟨"HilbertBasis", "sizeOf", "(I)I"⟩ ⟨"HilbertBasis", "sizeOf", "(I)I"⟩) ∈ lw_all := lw_g (lw_at lw_ms 10 rfl) rfl
theorem qs11 : (Cond.selects "HilbertBasis" ⟨"HilbertBasis", "addUnit", "(II)V"⟩ ⟨"HilbertBasis", "addUnit", "(II)V"⟩) ∈ lw_all := lw_g (lw_at lw_ms 11 rfl) rfl
theorem qs12 : (Cond.selects "HilbertBasis" ⟨"HilbertBasis", "take", "(IZ)I"⟩ ⟨"HilbertBasis", "take", "(IZ)I"⟩) ∈ lw_all := lw_g (lw_at lw_ms 12 rfl) rfl
theorem qs13 : (Cond.selects "HilbertBasisModel" ⟨"HilbertBasisModel", "badCode", "(I)Z"⟩ ⟨"HilbertBasisModel", "badCode", "(I)Z"⟩) ∈ lw_all := lw_g (lw_at lw_ms 13 rfl) rfl
theorem qs14 : (Cond.selects "HilbertBasisModel" ⟨"HilbertBasisModel", "balanced", "(I)Z"⟩ ⟨"HilbertBasisModel", "balanced", "(I)Z"⟩) ∈ lw_all := lw_g (lw_at lw_ms 14 rfl) rfl
theorem qs15 : (Cond.selects "HilbertBasisModel" ⟨"HilbertBasisModel", "digit", "(II)I"⟩ ⟨"HilbertBasisModel", "digit", "(II)I"⟩) ∈ lw_all := lw_g (lw_at lw_ms 15 rfl) rfl
theorem qs16 : (Cond.selects "HilbertBasisModel" ⟨"HilbertBasisModel", "work", "()V"⟩ ⟨"HilbertBasisModel", "work", "()V"⟩) ∈ lw_all := lw_g (lw_at lw_ms 16 rfl) rfl
theorem qs17 : (Cond.selects "HilbertBasisModel" ⟨"HilbertBasisModel", "alone", "(I)Z"⟩ ⟨"HilbertBasisModel", "alone", "(I)Z"⟩) ∈ lw_all := lw_g (lw_at lw_ms 17 rfl) rfl
theorem qs18 : (Cond.selects "HilbertBasisModel" ⟨"HilbertBasisModel", "part", "(II)Z"⟩ ⟨"HilbertBasisModel", "part", "(II)Z"⟩) ∈ lw_all := lw_g (lw_at lw_ms 18 rfl) rfl
theorem qs19 : (Cond.selects "HilbertBasisModel" ⟨"HilbertBasisModel", "lastThree", "(II)I"⟩ ⟨"HilbertBasisModel", "lastThree", "(II)I"⟩) ∈ lw_all := lw_g (lw_at lw_ms 19 rfl) rfl
theorem qs20 : (Cond.selects "HilbertBasisModel" ⟨"HilbertBasisModel", "sums", "(I)V"⟩ ⟨"HilbertBasisModel", "sums", "(I)V"⟩) ∈ lw_all := lw_g (lw_at lw_ms 20 rfl) rfl
theorem qs21 : (Cond.selects "HilbertBasisModel" ⟨"HilbertBasisModel", "parts", "(I)I"⟩ ⟨"HilbertBasisModel", "parts", "(I)I"⟩) ∈ lw_all := lw_g (lw_at lw_ms 21 rfl) rfl
theorem qs22 : (Cond.selects "HilbertBasisModel" ⟨"HilbertBasisModel", "under", "(II)I"⟩ ⟨"HilbertBasisModel", "under", "(II)I"⟩) ∈ lw_all := lw_g (lw_at lw_ms 22 rfl) rfl
theorem qs23 : (Cond.selects "HilbertBasisModel" ⟨"HilbertBasisModel", "spread", "(III)V"⟩ ⟨"HilbertBasisModel", "spread", "(III)V"⟩) ∈ lw_all := lw_g (lw_at lw_ms 23 rfl) rfl
end
section
/-! HilbertBasis -/
set_option maxRecDepth 100000
def RX0 : String := "HilbertBasis"
def TX0 : u_T := fun k => match k with
  | 0 => ("HilbertBasis", "weights", "[I", true)
  | 1 => ("HilbertBasis", "now", "[I", true)
  | 2 => ("HilbertBasis", "next", "[I", true)
  | 3 => ("HilbertBasis", "list", "[I", true)
  | 4 => ("HilbertBasis", "powers", "[I", true)
  | 5 => ("HilbertBasis", "table", "[I", true)
  | 6 => ("HilbertBasis", "picked", "[I", true)
  | 7 => ("HilbertBasis", "rest", "[I", true)
  | 8 => ("HilbertBasis", "count", "I", false)
  | _ => ("HilbertBasis", "current", "Z", false)
def tyX0 : Nat → FieldType := fun k => match k with
  | 0 => .array .int
  | 1 => .array .int
  | 2 => .array .int
  | 3 => .array .int
  | 4 => .array .int
  | 5 => .array .int
  | 6 => .array .int
  | 7 => .array .int
  | 8 => .int
  | _ => .boolean
abbrev wsX00 : List Cond := u_ws RX0 TX0 10
theorem nmX0 : ∀ a, a < 10 → ∀ b, b < 10 → a ≠ b → (TX0 a).2.1 ≠ (TX0 b).2.1 := by decide +kernel
theorem tyX0_ok : ∀ k, k < 10 → parseFieldDescriptor (TX0 k).2.2.1 = some (tyX0 k) := by decide +kernel
abbrev cX0_init : ByteArray := prog_1_method_1_code
def yX0_init : MethodName := ⟨RX0, "<init>", "()V"⟩
theorem dX0_init_0 : decode cX0_init 0 = .ok (.aload_n 0, 1) := by decide +kernel
theorem dX0_init_1 : decode cX0_init 1 = .ok (.invokespecial 1, 3) := by decide +kernel
theorem dX0_init_4 : decode cX0_init 4 = .ok (.aload_n 0, 1) := by decide +kernel
theorem dX0_init_5 : decode cX0_init 5 = .ok (.iconst 5, 1) := by decide +kernel
theorem dX0_init_6 : decode cX0_init 6 = .ok (.newarray .int, 2) := by decide +kernel
theorem dX0_init_8 : decode cX0_init 8 = .ok (.putfield 7, 3) := by decide +kernel
theorem dX0_init_11 : decode cX0_init 11 = .ok (.aload_n 0, 1) := by decide +kernel
theorem dX0_init_12 : decode cX0_init 12 = .ok (.sipush 526, 3) := by decide +kernel
theorem dX0_init_15 : decode cX0_init 15 = .ok (.newarray .int, 2) := by decide +kernel
theorem dX0_init_17 : decode cX0_init 17 = .ok (.putfield 13, 3) := by decide +kernel
theorem dX0_init_20 : decode cX0_init 20 = .ok (.aload_n 0, 1) := by decide +kernel
theorem dX0_init_21 : decode cX0_init 21 = .ok (.sipush 526, 3) := by decide +kernel
theorem dX0_init_24 : decode cX0_init 24 = .ok (.newarray .int, 2) := by decide +kernel
theorem dX0_init_26 : decode cX0_init 26 = .ok (.putfield 16, 3) := by decide +kernel
theorem dX0_init_29 : decode cX0_init 29 = .ok (.aload_n 0, 1) := by decide +kernel
theorem dX0_init_30 : decode cX0_init 30 = .ok (.sipush 400, 3) := by decide +kernel
theorem dX0_init_33 : decode cX0_init 33 = .ok (.newarray .int, 2) := by decide +kernel
theorem dX0_init_35 : decode cX0_init 35 = .ok (.putfield 19, 3) := by decide +kernel
theorem dX0_init_38 : decode cX0_init 38 = .ok (.aload_n 0, 1) := by decide +kernel
theorem dX0_init_39 : decode cX0_init 39 = .ok (.iconst 5, 1) := by decide +kernel
theorem dX0_init_40 : decode cX0_init 40 = .ok (.newarray .int, 2) := by decide +kernel
theorem dX0_init_42 : decode cX0_init 42 = .ok (.putfield 22, 3) := by decide +kernel
theorem dX0_init_45 : decode cX0_init 45 = .ok (.aload_n 0, 1) := by decide +kernel
theorem dX0_init_46 : decode cX0_init 46 = .ok (.sipush 5061, 3) := by decide +kernel
theorem dX0_init_49 : decode cX0_init 49 = .ok (.newarray .int, 2) := by decide +kernel
theorem dX0_init_51 : decode cX0_init 51 = .ok (.putfield 25, 3) := by decide +kernel
theorem dX0_init_54 : decode cX0_init 54 = .ok (.aload_n 0, 1) := by decide +kernel
theorem dX0_init_55 : decode cX0_init 55 = .ok (.bipush 40, 2) := by decide +kernel
theorem dX0_init_57 : decode cX0_init 57 = .ok (.newarray .int, 2) := by decide +kernel
theorem dX0_init_59 : decode cX0_init 59 = .ok (.putfield 28, 3) := by decide +kernel
theorem dX0_init_62 : decode cX0_init 62 = .ok (.aload_n 0, 1) := by decide +kernel
theorem dX0_init_63 : decode cX0_init 63 = .ok (.bipush 40, 2) := by decide +kernel
theorem dX0_init_65 : decode cX0_init 65 = .ok (.newarray .int, 2) := by decide +kernel
theorem dX0_init_67 : decode cX0_init 67 = .ok (.putfield 31, 3) := by decide +kernel
theorem dX0_init_70 : decode cX0_init 70 = .ok (.aload_n 0, 1) := by decide +kernel
theorem dX0_init_71 : decode cX0_init 71 = .ok (.getfield 22, 3) := by decide +kernel
theorem dX0_init_74 : decode cX0_init 74 = .ok (.iconst 4, 1) := by decide +kernel
theorem dX0_init_75 : decode cX0_init 75 = .ok (.iconst 1, 1) := by decide +kernel
theorem dX0_init_76 : decode cX0_init 76 = .ok (.iastore, 1) := by decide +kernel
theorem dX0_init_77 : decode cX0_init 77 = .ok (.iconst 3, 1) := by decide +kernel
theorem dX0_init_78 : decode cX0_init 78 = .ok (.istore_n 1, 1) := by decide +kernel
theorem dX0_init_79 : decode cX0_init 79 = .ok (.iload_n 1, 1) := by decide +kernel
theorem dX0_init_80 : decode cX0_init 80 = .ok (.ifCond .lt 26, 3) := by decide +kernel
theorem dX0_init_83 : decode cX0_init 83 = .ok (.aload_n 0, 1) := by decide +kernel
theorem dX0_init_84 : decode cX0_init 84 = .ok (.getfield 22, 3) := by decide +kernel
theorem dX0_init_87 : decode cX0_init 87 = .ok (.iload_n 1, 1) := by decide +kernel
theorem dX0_init_88 : decode cX0_init 88 = .ok (.aload_n 0, 1) := by decide +kernel
theorem dX0_init_89 : decode cX0_init 89 = .ok (.getfield 22, 3) := by decide +kernel
theorem dX0_init_92 : decode cX0_init 92 = .ok (.iload_n 1, 1) := by decide +kernel
theorem dX0_init_93 : decode cX0_init 93 = .ok (.iconst 1, 1) := by decide +kernel
theorem dX0_init_94 : decode cX0_init 94 = .ok (.iadd, 1) := by decide +kernel
theorem dX0_init_95 : decode cX0_init 95 = .ok (.iaload, 1) := by decide +kernel
theorem dX0_init_96 : decode cX0_init 96 = .ok (.bipush 7, 2) := by decide +kernel
theorem dX0_init_98 : decode cX0_init 98 = .ok (.imul, 1) := by decide +kernel
theorem dX0_init_99 : decode cX0_init 99 = .ok (.iastore, 1) := by decide +kernel
theorem dX0_init_100 : decode cX0_init 100 = .ok (.iinc 1 (-1), 3) := by decide +kernel
theorem dX0_init_103 : decode cX0_init 103 = .ok (.goto (-24), 3) := by decide +kernel
theorem dX0_init_106 : decode cX0_init 106 = .ok (.return_, 1) := by decide +kernel
abbrev cX0_set : ByteArray := prog_1_method_2_code
def yX0_set : MethodName := ⟨RX0, "set", "(II)I"⟩
theorem dX0_set_0 : decode cX0_set 0 = .ok (.iload_n 1, 1) := by decide +kernel
theorem dX0_set_1 : decode cX0_set 1 = .ok (.invokestatic 34, 3) := by decide +kernel
theorem dX0_set_4 : decode cX0_set 4 = .ok (.ifCond .ne 5, 3) := by decide +kernel
theorem dX0_set_7 : decode cX0_set 7 = .ok (.iconst (-1), 1) := by decide +kernel
theorem dX0_set_8 : decode cX0_set 8 = .ok (.ireturn, 1) := by decide +kernel
theorem dX0_set_9 : decode cX0_set 9 = .ok (.iload_n 2, 1) := by decide +kernel
theorem dX0_set_10 : decode cX0_set 10 = .ok (.bipush (-6), 2) := by decide +kernel
theorem dX0_set_12 : decode cX0_set 12 = .ok (.if_icmp .lt 9, 3) := by decide +kernel
theorem dX0_set_15 : decode cX0_set 15 = .ok (.iload_n 2, 1) := by decide +kernel
theorem dX0_set_16 : decode cX0_set 16 = .ok (.bipush 6, 2) := by decide +kernel
theorem dX0_set_18 : decode cX0_set 18 = .ok (.if_icmp .le 6, 3) := by decide +kernel
theorem dX0_set_21 : decode cX0_set 21 = .ok (.bipush (-2), 2) := by decide +kernel
theorem dX0_set_23 : decode cX0_set 23 = .ok (.ireturn, 1) := by decide +kernel
theorem dX0_set_24 : decode cX0_set 24 = .ok (.aload_n 0, 1) := by decide +kernel
theorem dX0_set_25 : decode cX0_set 25 = .ok (.getfield 7, 3) := by decide +kernel
theorem dX0_set_28 : decode cX0_set 28 = .ok (.iload_n 1, 1) := by decide +kernel
theorem dX0_set_29 : decode cX0_set 29 = .ok (.iaload, 1) := by decide +kernel
theorem dX0_set_30 : decode cX0_set 30 = .ok (.istore_n 3, 1) := by decide +kernel
theorem dX0_set_31 : decode cX0_set 31 = .ok (.aload_n 0, 1) := by decide +kernel
theorem dX0_set_32 : decode cX0_set 32 = .ok (.getfield 7, 3) := by decide +kernel
theorem dX0_set_35 : decode cX0_set 35 = .ok (.iload_n 1, 1) := by decide +kernel
theorem dX0_set_36 : decode cX0_set 36 = .ok (.iload_n 2, 1) := by decide +kernel
theorem dX0_set_37 : decode cX0_set 37 = .ok (.iastore, 1) := by decide +kernel
theorem dX0_set_38 : decode cX0_set 38 = .ok (.aload_n 0, 1) := by decide +kernel
theorem dX0_set_39 : decode cX0_set 39 = .ok (.iconst 0, 1) := by decide +kernel
theorem dX0_set_40 : decode cX0_set 40 = .ok (.putfield 38, 3) := by decide +kernel
theorem dX0_set_43 : decode cX0_set 43 = .ok (.iload_n 3, 1) := by decide +kernel
theorem dX0_set_44 : decode cX0_set 44 = .ok (.ireturn, 1) := by decide +kernel
abbrev cX0_isIndex : ByteArray := prog_1_method_16_code
def yX0_isIndex : MethodName := ⟨RX0, "isIndex", "(I)Z"⟩
theorem dX0_isIndex_0 : decode cX0_isIndex 0 = .ok (.iload_n 0, 1) := by decide +kernel
theorem dX0_isIndex_1 : decode cX0_isIndex 1 = .ok (.ifCond .lt 12, 3) := by decide +kernel
theorem dX0_isIndex_4 : decode cX0_isIndex 4 = .ok (.iload_n 0, 1) := by decide +kernel
theorem dX0_isIndex_5 : decode cX0_isIndex 5 = .ok (.iconst 5, 1) := by decide +kernel
theorem dX0_isIndex_6 : decode cX0_isIndex 6 = .ok (.if_icmp .ge 7, 3) := by decide +kernel
theorem dX0_isIndex_9 : decode cX0_isIndex 9 = .ok (.iconst 1, 1) := by decide +kernel
theorem dX0_isIndex_10 : decode cX0_isIndex 10 = .ok (.goto 4, 3) := by decide +kernel
theorem dX0_isIndex_13 : decode cX0_isIndex 13 = .ok (.iconst 0, 1) := by decide +kernel
theorem dX0_isIndex_14 : decode cX0_isIndex 14 = .ok (.ireturn, 1) := by decide +kernel
abbrev cX0_sow : ByteArray := prog_1_method_3_code
def yX0_sow : MethodName := ⟨RX0, "sow", "(II)I"⟩
theorem dX0_sow_0 : decode cX0_sow 0 = .ok (.iload_n 1, 1) := by decide +kernel
theorem dX0_sow_1 : decode cX0_sow 1 = .ok (.ifCond .lt 9, 3) := by decide +kernel
theorem dX0_sow_4 : decode cX0_sow 4 = .ok (.iload_n 1, 1) := by decide +kernel
theorem dX0_sow_5 : decode cX0_sow 5 = .ok (.bipush 12, 2) := by decide +kernel
theorem dX0_sow_7 : decode cX0_sow 7 = .ok (.if_icmp .le 5, 3) := by decide +kernel
theorem dX0_sow_10 : decode cX0_sow 10 = .ok (.iconst (-1), 1) := by decide +kernel
theorem dX0_sow_11 : decode cX0_sow 11 = .ok (.ireturn, 1) := by decide +kernel
theorem dX0_sow_12 : decode cX0_sow 12 = .ok (.iload_n 2, 1) := by decide +kernel
theorem dX0_sow_13 : decode cX0_sow 13 = .ok (.ifCond .lt 9, 3) := by decide +kernel
theorem dX0_sow_16 : decode cX0_sow 16 = .ok (.iload_n 2, 1) := by decide +kernel
theorem dX0_sow_17 : decode cX0_sow 17 = .ok (.bipush 12, 2) := by decide +kernel
theorem dX0_sow_19 : decode cX0_sow 19 = .ok (.if_icmp .le 6, 3) := by decide +kernel
theorem dX0_sow_22 : decode cX0_sow 22 = .ok (.bipush (-2), 2) := by decide +kernel
theorem dX0_sow_24 : decode cX0_sow 24 = .ok (.ireturn, 1) := by decide +kernel
theorem dX0_sow_25 : decode cX0_sow 25 = .ok (.iconst 0, 1) := by decide +kernel
theorem dX0_sow_26 : decode cX0_sow 26 = .ok (.istore_n 3, 1) := by decide +kernel
theorem dX0_sow_27 : decode cX0_sow 27 = .ok (.iconst 0, 1) := by decide +kernel
theorem dX0_sow_28 : decode cX0_sow 28 = .ok (.istore 4, 2) := by decide +kernel
theorem dX0_sow_30 : decode cX0_sow 30 = .ok (.iload 4, 2) := by decide +kernel
theorem dX0_sow_32 : decode cX0_sow 32 = .ok (.iconst 5, 1) := by decide +kernel
theorem dX0_sow_33 : decode cX0_sow 33 = .ok (.if_icmp .ge 46, 3) := by decide +kernel
theorem dX0_sow_36 : decode cX0_sow 36 = .ok (.aload_n 0, 1) := by decide +kernel
theorem dX0_sow_37 : decode cX0_sow 37 = .ok (.getfield 7, 3) := by decide +kernel
theorem dX0_sow_40 : decode cX0_sow 40 = .ok (.iload 4, 2) := by decide +kernel
theorem dX0_sow_42 : decode cX0_sow 42 = .ok (.iload_n 1, 1) := by decide +kernel
theorem dX0_sow_43 : decode cX0_sow 43 = .ok (.iconst 5, 1) := by decide +kernel
theorem dX0_sow_44 : decode cX0_sow 44 = .ok (.iload 4, 2) := by decide +kernel
theorem dX0_sow_46 : decode cX0_sow 46 = .ok (.imul, 1) := by decide +kernel
theorem dX0_sow_47 : decode cX0_sow 47 = .ok (.iadd, 1) := by decide +kernel
theorem dX0_sow_48 : decode cX0_sow 48 = .ok (.iload_n 2, 1) := by decide +kernel
theorem dX0_sow_49 : decode cX0_sow 49 = .ok (.iload 4, 2) := by decide +kernel
theorem dX0_sow_51 : decode cX0_sow 51 = .ok (.imul, 1) := by decide +kernel
theorem dX0_sow_52 : decode cX0_sow 52 = .ok (.iload 4, 2) := by decide +kernel
theorem dX0_sow_54 : decode cX0_sow 54 = .ok (.imul, 1) := by decide +kernel
theorem dX0_sow_55 : decode cX0_sow 55 = .ok (.iadd, 1) := by decide +kernel
theorem dX0_sow_56 : decode cX0_sow 56 = .ok (.bipush 13, 2) := by decide +kernel
theorem dX0_sow_58 : decode cX0_sow 58 = .ok (.irem, 1) := by decide +kernel
theorem dX0_sow_59 : decode cX0_sow 59 = .ok (.bipush 6, 2) := by decide +kernel
theorem dX0_sow_61 : decode cX0_sow 61 = .ok (.isub, 1) := by decide +kernel
theorem dX0_sow_62 : decode cX0_sow 62 = .ok (.iastore, 1) := by decide +kernel
theorem dX0_sow_63 : decode cX0_sow 63 = .ok (.iload_n 3, 1) := by decide +kernel
theorem dX0_sow_64 : decode cX0_sow 64 = .ok (.aload_n 0, 1) := by decide +kernel
theorem dX0_sow_65 : decode cX0_sow 65 = .ok (.getfield 7, 3) := by decide +kernel
theorem dX0_sow_68 : decode cX0_sow 68 = .ok (.iload 4, 2) := by decide +kernel
theorem dX0_sow_70 : decode cX0_sow 70 = .ok (.iaload, 1) := by decide +kernel
theorem dX0_sow_71 : decode cX0_sow 71 = .ok (.iadd, 1) := by decide +kernel
theorem dX0_sow_72 : decode cX0_sow 72 = .ok (.istore_n 3, 1) := by decide +kernel
theorem dX0_sow_73 : decode cX0_sow 73 = .ok (.iinc 4 1, 3) := by decide +kernel
theorem dX0_sow_76 : decode cX0_sow 76 = .ok (.goto (-46), 3) := by decide +kernel
theorem dX0_sow_79 : decode cX0_sow 79 = .ok (.aload_n 0, 1) := by decide +kernel
theorem dX0_sow_80 : decode cX0_sow 80 = .ok (.iconst 0, 1) := by decide +kernel
theorem dX0_sow_81 : decode cX0_sow 81 = .ok (.putfield 38, 3) := by decide +kernel
theorem dX0_sow_84 : decode cX0_sow 84 = .ok (.iload_n 3, 1) := by decide +kernel
theorem dX0_sow_85 : decode cX0_sow 85 = .ok (.ireturn, 1) := by decide +kernel
abbrev cX0_weight : ByteArray := prog_1_method_4_code
def yX0_weight : MethodName := ⟨RX0, "weight", "(I)I"⟩
theorem dX0_weight_0 : decode cX0_weight 0 = .ok (.iload_n 1, 1) := by decide +kernel
theorem dX0_weight_1 : decode cX0_weight 1 = .ok (.invokestatic 34, 3) := by decide +kernel
theorem dX0_weight_4 : decode cX0_weight 4 = .ok (.ifCond .eq 12, 3) := by decide +kernel
theorem dX0_weight_7 : decode cX0_weight 7 = .ok (.aload_n 0, 1) := by decide +kernel
theorem dX0_weight_8 : decode cX0_weight 8 = .ok (.getfield 7, 3) := by decide +kernel
theorem dX0_weight_11 : decode cX0_weight 11 = .ok (.iload_n 1, 1) := by decide +kernel
theorem dX0_weight_12 : decode cX0_weight 12 = .ok (.iaload, 1) := by decide +kernel
theorem dX0_weight_13 : decode cX0_weight 13 = .ok (.goto 5, 3) := by decide +kernel
theorem dX0_weight_16 : decode cX0_weight 16 = .ok (.bipush (-100), 2) := by decide +kernel
theorem dX0_weight_18 : decode cX0_weight 18 = .ok (.ireturn, 1) := by decide +kernel
abbrev cX0_isBalance : ByteArray := prog_1_method_5_code
def yX0_isBalance : MethodName := ⟨RX0, "isBalance", "(I)I"⟩
theorem dX0_isBalance_0 : decode cX0_isBalance 0 = .ok (.iload_n 1, 1) := by decide +kernel
theorem dX0_isBalance_1 : decode cX0_isBalance 1 = .ok (.invokestatic 42, 3) := by decide +kernel
theorem dX0_isBalance_4 : decode cX0_isBalance 4 = .ok (.ifCond .ne 5, 3) := by decide +kernel
theorem dX0_isBalance_7 : decode cX0_isBalance 7 = .ok (.iconst (-1), 1) := by decide +kernel
theorem dX0_isBalance_8 : decode cX0_isBalance 8 = .ok (.ireturn, 1) := by decide +kernel
theorem dX0_isBalance_9 : decode cX0_isBalance 9 = .ok (.aload_n 0, 1) := by decide +kernel
theorem dX0_isBalance_10 : decode cX0_isBalance 10 = .ok (.iload_n 1, 1) := by decide +kernel
theorem dX0_isBalance_11 : decode cX0_isBalance 11 = .ok (.invokevirtual 45, 3) := by decide +kernel
theorem dX0_isBalance_14 : decode cX0_isBalance 14 = .ok (.ifCond .ne 7, 3) := by decide +kernel
theorem dX0_isBalance_17 : decode cX0_isBalance 17 = .ok (.iconst 1, 1) := by decide +kernel
theorem dX0_isBalance_18 : decode cX0_isBalance 18 = .ok (.goto 4, 3) := by decide +kernel
theorem dX0_isBalance_21 : decode cX0_isBalance 21 = .ok (.iconst 0, 1) := by decide +kernel
theorem dX0_isBalance_22 : decode cX0_isBalance 22 = .ok (.ireturn, 1) := by decide +kernel
abbrev cX0_isCode : ByteArray := prog_1_method_17_code
def yX0_isCode : MethodName := ⟨RX0, "isCode", "(I)Z"⟩
theorem dX0_isCode_0 : decode cX0_isCode 0 = .ok (.iload_n 0, 1) := by decide +kernel
theorem dX0_isCode_1 : decode cX0_isCode 1 = .ok (.ifCond .lt 14, 3) := by decide +kernel
theorem dX0_isCode_4 : decode cX0_isCode 4 = .ok (.iload_n 0, 1) := by decide +kernel
theorem dX0_isCode_5 : decode cX0_isCode 5 = .ok (.sipush 16807, 3) := by decide +kernel
theorem dX0_isCode_8 : decode cX0_isCode 8 = .ok (.if_icmp .ge 7, 3) := by decide +kernel
theorem dX0_isCode_11 : decode cX0_isCode 11 = .ok (.iconst 1, 1) := by decide +kernel
theorem dX0_isCode_12 : decode cX0_isCode 12 = .ok (.goto 4, 3) := by decide +kernel
theorem dX0_isCode_15 : decode cX0_isCode 15 = .ok (.iconst 0, 1) := by decide +kernel
theorem dX0_isCode_16 : decode cX0_isCode 16 = .ok (.ireturn, 1) := by decide +kernel
abbrev cX0_sumOf : ByteArray := prog_1_method_19_code
def yX0_sumOf : MethodName := ⟨RX0, "sumOf", "(I)I"⟩
theorem dX0_sumOf_0 : decode cX0_sumOf 0 = .ok (.iconst 0, 1) := by decide +kernel
theorem dX0_sumOf_1 : decode cX0_sumOf 1 = .ok (.istore_n 2, 1) := by decide +kernel
theorem dX0_sumOf_2 : decode cX0_sumOf 2 = .ok (.iconst 0, 1) := by decide +kernel
theorem dX0_sumOf_3 : decode cX0_sumOf 3 = .ok (.istore_n 3, 1) := by decide +kernel
theorem dX0_sumOf_4 : decode cX0_sumOf 4 = .ok (.iload_n 3, 1) := by decide +kernel
theorem dX0_sumOf_5 : decode cX0_sumOf 5 = .ok (.iconst 5, 1) := by decide +kernel
theorem dX0_sumOf_6 : decode cX0_sumOf 6 = .ok (.if_icmp .ge 25, 3) := by decide +kernel
theorem dX0_sumOf_9 : decode cX0_sumOf 9 = .ok (.iload_n 2, 1) := by decide +kernel
theorem dX0_sumOf_10 : decode cX0_sumOf 10 = .ok (.aload_n 0, 1) := by decide +kernel
theorem dX0_sumOf_11 : decode cX0_sumOf 11 = .ok (.iload_n 1, 1) := by decide +kernel
theorem dX0_sumOf_12 : decode cX0_sumOf 12 = .ok (.iload_n 3, 1) := by decide +kernel
theorem dX0_sumOf_13 : decode cX0_sumOf 13 = .ok (.invokevirtual 59, 3) := by decide +kernel
theorem dX0_sumOf_16 : decode cX0_sumOf 16 = .ok (.aload_n 0, 1) := by decide +kernel
theorem dX0_sumOf_17 : decode cX0_sumOf 17 = .ok (.getfield 7, 3) := by decide +kernel
theorem dX0_sumOf_20 : decode cX0_sumOf 20 = .ok (.iload_n 3, 1) := by decide +kernel
theorem dX0_sumOf_21 : decode cX0_sumOf 21 = .ok (.iaload, 1) := by decide +kernel
theorem dX0_sumOf_22 : decode cX0_sumOf 22 = .ok (.imul, 1) := by decide +kernel
theorem dX0_sumOf_23 : decode cX0_sumOf 23 = .ok (.iadd, 1) := by decide +kernel
theorem dX0_sumOf_24 : decode cX0_sumOf 24 = .ok (.istore_n 2, 1) := by decide +kernel
theorem dX0_sumOf_25 : decode cX0_sumOf 25 = .ok (.iinc 3 1, 3) := by decide +kernel
theorem dX0_sumOf_28 : decode cX0_sumOf 28 = .ok (.goto (-24), 3) := by decide +kernel
theorem dX0_sumOf_31 : decode cX0_sumOf 31 = .ok (.iload_n 2, 1) := by decide +kernel
theorem dX0_sumOf_32 : decode cX0_sumOf 32 = .ok (.ireturn, 1) := by decide +kernel
abbrev cX0_digit : ByteArray := prog_1_method_18_code
def yX0_digit : MethodName := ⟨RX0, "digit", "(II)I"⟩
theorem dX0_digit_0 : decode cX0_digit 0 = .ok (.aload_n 0, 1) := by decide +kernel
theorem dX0_digit_1 : decode cX0_digit 1 = .ok (.getfield 22, 3) := by decide +kernel
theorem dX0_digit_4 : decode cX0_digit 4 = .ok (.iload_n 2, 1) := by decide +kernel
theorem dX0_digit_5 : decode cX0_digit 5 = .ok (.iaload, 1) := by decide +kernel
theorem dX0_digit_6 : decode cX0_digit 6 = .ok (.istore_n 3, 1) := by decide +kernel
theorem dX0_digit_7 : decode cX0_digit 7 = .ok (.iload_n 1, 1) := by decide +kernel
theorem dX0_digit_8 : decode cX0_digit 8 = .ok (.iload_n 3, 1) := by decide +kernel
theorem dX0_digit_9 : decode cX0_digit 9 = .ok (.ifCond .le 7, 3) := by decide +kernel
theorem dX0_digit_12 : decode cX0_digit 12 = .ok (.iload_n 3, 1) := by decide +kernel
theorem dX0_digit_13 : decode cX0_digit 13 = .ok (.goto 4, 3) := by decide +kernel
theorem dX0_digit_16 : decode cX0_digit 16 = .ok (.iconst 1, 1) := by decide +kernel
theorem dX0_digit_17 : decode cX0_digit 17 = .ok (.idiv, 1) := by decide +kernel
theorem dX0_digit_18 : decode cX0_digit 18 = .ok (.bipush 7, 2) := by decide +kernel
theorem dX0_digit_20 : decode cX0_digit 20 = .ok (.irem, 1) := by decide +kernel
theorem dX0_digit_21 : decode cX0_digit 21 = .ok (.ireturn, 1) := by decide +kernel
abbrev cX0_isLeast : ByteArray := prog_1_method_6_code
def yX0_isLeast : MethodName := ⟨RX0, "isLeast", "(I)I"⟩
theorem dX0_isLeast_0 : decode cX0_isLeast 0 = .ok (.iload_n 1, 1) := by decide +kernel
theorem dX0_isLeast_1 : decode cX0_isLeast 1 = .ok (.invokestatic 42, 3) := by decide +kernel
theorem dX0_isLeast_4 : decode cX0_isLeast 4 = .ok (.ifCond .ne 5, 3) := by decide +kernel
theorem dX0_isLeast_7 : decode cX0_isLeast 7 = .ok (.iconst (-1), 1) := by decide +kernel
theorem dX0_isLeast_8 : decode cX0_isLeast 8 = .ok (.ireturn, 1) := by decide +kernel
theorem dX0_isLeast_9 : decode cX0_isLeast 9 = .ok (.aload_n 0, 1) := by decide +kernel
theorem dX0_isLeast_10 : decode cX0_isLeast 10 = .ok (.invokevirtual 49, 3) := by decide +kernel
theorem dX0_isLeast_13 : decode cX0_isLeast 13 = .ok (.aload_n 0, 1) := by decide +kernel
theorem dX0_isLeast_14 : decode cX0_isLeast 14 = .ok (.iload_n 1, 1) := by decide +kernel
theorem dX0_isLeast_15 : decode cX0_isLeast 15 = .ok (.invokevirtual 52, 3) := by decide +kernel
theorem dX0_isLeast_18 : decode cX0_isLeast 18 = .ok (.ifCond .lt 7, 3) := by decide +kernel
theorem dX0_isLeast_21 : decode cX0_isLeast 21 = .ok (.iconst 1, 1) := by decide +kernel
theorem dX0_isLeast_22 : decode cX0_isLeast 22 = .ok (.goto 4, 3) := by decide +kernel
theorem dX0_isLeast_25 : decode cX0_isLeast 25 = .ok (.iconst 0, 1) := by decide +kernel
theorem dX0_isLeast_26 : decode cX0_isLeast 26 = .ok (.ireturn, 1) := by decide +kernel
abbrev cX0_refresh : ByteArray := prog_1_method_24_code
def yX0_refresh : MethodName := ⟨RX0, "refresh", "()V"⟩
theorem dX0_refresh_0 : decode cX0_refresh 0 = .ok (.aload_n 0, 1) := by decide +kernel
theorem dX0_refresh_1 : decode cX0_refresh 1 = .ok (.getfield 38, 3) := by decide +kernel
theorem dX0_refresh_4 : decode cX0_refresh 4 = .ok (.ifCond .eq 4, 3) := by decide +kernel
theorem dX0_refresh_7 : decode cX0_refresh 7 = .ok (.return_, 1) := by decide +kernel
theorem dX0_refresh_8 : decode cX0_refresh 8 = .ok (.aload_n 0, 1) := by decide +kernel
theorem dX0_refresh_9 : decode cX0_refresh 9 = .ok (.iconst 1, 1) := by decide +kernel
theorem dX0_refresh_10 : decode cX0_refresh 10 = .ok (.putfield 38, 3) := by decide +kernel
theorem dX0_refresh_13 : decode cX0_refresh 13 = .ok (.aload_n 0, 1) := by decide +kernel
theorem dX0_refresh_14 : decode cX0_refresh 14 = .ok (.iconst 0, 1) := by decide +kernel
theorem dX0_refresh_15 : decode cX0_refresh 15 = .ok (.putfield 55, 3) := by decide +kernel
theorem dX0_refresh_18 : decode cX0_refresh 18 = .ok (.iconst 0, 1) := by decide +kernel
theorem dX0_refresh_19 : decode cX0_refresh 19 = .ok (.istore_n 1, 1) := by decide +kernel
theorem dX0_refresh_20 : decode cX0_refresh 20 = .ok (.iload_n 1, 1) := by decide +kernel
theorem dX0_refresh_21 : decode cX0_refresh 21 = .ok (.sipush 526, 3) := by decide +kernel
theorem dX0_refresh_24 : decode cX0_refresh 24 = .ok (.if_icmp .ge 16, 3) := by decide +kernel
theorem dX0_refresh_27 : decode cX0_refresh 27 = .ok (.aload_n 0, 1) := by decide +kernel
theorem dX0_refresh_28 : decode cX0_refresh 28 = .ok (.getfield 13, 3) := by decide +kernel
theorem dX0_refresh_31 : decode cX0_refresh 31 = .ok (.iload_n 1, 1) := by decide +kernel
theorem dX0_refresh_32 : decode cX0_refresh 32 = .ok (.iconst 0, 1) := by decide +kernel
theorem dX0_refresh_33 : decode cX0_refresh 33 = .ok (.iastore, 1) := by decide +kernel
theorem dX0_refresh_34 : decode cX0_refresh 34 = .ok (.iinc 1 1, 3) := by decide +kernel
theorem dX0_refresh_37 : decode cX0_refresh 37 = .ok (.goto (-17), 3) := by decide +kernel
theorem dX0_refresh_40 : decode cX0_refresh 40 = .ok (.iconst 0, 1) := by decide +kernel
theorem dX0_refresh_41 : decode cX0_refresh 41 = .ok (.istore_n 1, 1) := by decide +kernel
theorem dX0_refresh_42 : decode cX0_refresh 42 = .ok (.iload_n 1, 1) := by decide +kernel
theorem dX0_refresh_43 : decode cX0_refresh 43 = .ok (.iconst 5, 1) := by decide +kernel
theorem dX0_refresh_44 : decode cX0_refresh 44 = .ok (.if_icmp .ge 47, 3) := by decide +kernel
theorem dX0_refresh_47 : decode cX0_refresh 47 = .ok (.aload_n 0, 1) := by decide +kernel
theorem dX0_refresh_48 : decode cX0_refresh 48 = .ok (.getfield 13, 3) := by decide +kernel
theorem dX0_refresh_51 : decode cX0_refresh 51 = .ok (.aload_n 0, 1) := by decide +kernel
theorem dX0_refresh_52 : decode cX0_refresh 52 = .ok (.getfield 22, 3) := by decide +kernel
theorem dX0_refresh_55 : decode cX0_refresh 55 = .ok (.iload_n 1, 1) := by decide +kernel
theorem dX0_refresh_56 : decode cX0_refresh 56 = .ok (.iaload, 1) := by decide +kernel
theorem dX0_refresh_57 : decode cX0_refresh 57 = .ok (.iconst 5, 1) := by decide +kernel
theorem dX0_refresh_58 : decode cX0_refresh 58 = .ok (.ishr, 1) := by decide +kernel
theorem dX0_refresh_59 : decode cX0_refresh 59 = .ok (.aload_n 0, 1) := by decide +kernel
theorem dX0_refresh_60 : decode cX0_refresh 60 = .ok (.getfield 13, 3) := by decide +kernel
theorem dX0_refresh_63 : decode cX0_refresh 63 = .ok (.aload_n 0, 1) := by decide +kernel
theorem dX0_refresh_64 : decode cX0_refresh 64 = .ok (.getfield 22, 3) := by decide +kernel
theorem dX0_refresh_67 : decode cX0_refresh 67 = .ok (.iload_n 1, 1) := by decide +kernel
theorem dX0_refresh_68 : decode cX0_refresh 68 = .ok (.iaload, 1) := by decide +kernel
theorem dX0_refresh_69 : decode cX0_refresh 69 = .ok (.iconst 5, 1) := by decide +kernel
theorem dX0_refresh_70 : decode cX0_refresh 70 = .ok (.ishr, 1) := by decide +kernel
theorem dX0_refresh_71 : decode cX0_refresh 71 = .ok (.iaload, 1) := by decide +kernel
theorem dX0_refresh_72 : decode cX0_refresh 72 = .ok (.iconst 1, 1) := by decide +kernel
theorem dX0_refresh_73 : decode cX0_refresh 73 = .ok (.aload_n 0, 1) := by decide +kernel
theorem dX0_refresh_74 : decode cX0_refresh 74 = .ok (.getfield 22, 3) := by decide +kernel
theorem dX0_refresh_77 : decode cX0_refresh 77 = .ok (.iload_n 1, 1) := by decide +kernel
theorem dX0_refresh_78 : decode cX0_refresh 78 = .ok (.iaload, 1) := by decide +kernel
theorem dX0_refresh_79 : decode cX0_refresh 79 = .ok (.bipush 31, 2) := by decide +kernel
theorem dX0_refresh_81 : decode cX0_refresh 81 = .ok (.iand, 1) := by decide +kernel
theorem dX0_refresh_82 : decode cX0_refresh 82 = .ok (.ishl, 1) := by decide +kernel
theorem dX0_refresh_83 : decode cX0_refresh 83 = .ok (.ior, 1) := by decide +kernel
theorem dX0_refresh_84 : decode cX0_refresh 84 = .ok (.iastore, 1) := by decide +kernel
theorem dX0_refresh_85 : decode cX0_refresh 85 = .ok (.iinc 1 1, 3) := by decide +kernel
theorem dX0_refresh_88 : decode cX0_refresh 88 = .ok (.goto (-46), 3) := by decide +kernel
theorem dX0_refresh_91 : decode cX0_refresh 91 = .ok (.iconst 1, 1) := by decide +kernel
theorem dX0_refresh_92 : decode cX0_refresh 92 = .ok (.istore_n 1, 1) := by decide +kernel
theorem dX0_refresh_93 : decode cX0_refresh 93 = .ok (.iload_n 1, 1) := by decide +kernel
theorem dX0_refresh_94 : decode cX0_refresh 94 = .ok (.bipush 30, 2) := by decide +kernel
theorem dX0_refresh_96 : decode cX0_refresh 96 = .ok (.if_icmp .gt 44, 3) := by decide +kernel
theorem dX0_refresh_99 : decode cX0_refresh 99 = .ok (.aload_n 0, 1) := by decide +kernel
theorem dX0_refresh_100 : decode cX0_refresh 100 = .ok (.invokevirtual 78, 3) := by decide +kernel
theorem dX0_refresh_103 : decode cX0_refresh 103 = .ok (.aload_n 0, 1) := by decide +kernel
theorem dX0_refresh_104 : decode cX0_refresh 104 = .ok (.invokevirtual 81, 3) := by decide +kernel
theorem dX0_refresh_107 : decode cX0_refresh 107 = .ok (.iconst 0, 1) := by decide +kernel
theorem dX0_refresh_108 : decode cX0_refresh 108 = .ok (.istore_n 2, 1) := by decide +kernel
theorem dX0_refresh_109 : decode cX0_refresh 109 = .ok (.iload_n 2, 1) := by decide +kernel
theorem dX0_refresh_110 : decode cX0_refresh 110 = .ok (.sipush 526, 3) := by decide +kernel
theorem dX0_refresh_113 : decode cX0_refresh 113 = .ok (.if_icmp .ge 21, 3) := by decide +kernel
theorem dX0_refresh_116 : decode cX0_refresh 116 = .ok (.aload_n 0, 1) := by decide +kernel
theorem dX0_refresh_117 : decode cX0_refresh 117 = .ok (.getfield 13, 3) := by decide +kernel
theorem dX0_refresh_120 : decode cX0_refresh 120 = .ok (.iload_n 2, 1) := by decide +kernel
theorem dX0_refresh_121 : decode cX0_refresh 121 = .ok (.aload_n 0, 1) := by decide +kernel
theorem dX0_refresh_122 : decode cX0_refresh 122 = .ok (.getfield 16, 3) := by decide +kernel
theorem dX0_refresh_125 : decode cX0_refresh 125 = .ok (.iload_n 2, 1) := by decide +kernel
theorem dX0_refresh_126 : decode cX0_refresh 126 = .ok (.iaload, 1) := by decide +kernel
theorem dX0_refresh_127 : decode cX0_refresh 127 = .ok (.iastore, 1) := by decide +kernel
theorem dX0_refresh_128 : decode cX0_refresh 128 = .ok (.iinc 2 1, 3) := by decide +kernel
theorem dX0_refresh_131 : decode cX0_refresh 131 = .ok (.goto (-22), 3) := by decide +kernel
theorem dX0_refresh_134 : decode cX0_refresh 134 = .ok (.iinc 1 1, 3) := by decide +kernel
theorem dX0_refresh_137 : decode cX0_refresh 137 = .ok (.goto (-44), 3) := by decide +kernel
theorem dX0_refresh_140 : decode cX0_refresh 140 = .ok (.aload_n 0, 1) := by decide +kernel
theorem dX0_refresh_141 : decode cX0_refresh 141 = .ok (.invokevirtual 84, 3) := by decide +kernel
theorem dX0_refresh_144 : decode cX0_refresh 144 = .ok (.return_, 1) := by decide +kernel
abbrev cX0_gather : ByteArray := prog_1_method_25_code
def yX0_gather : MethodName := ⟨RX0, "gather", "()V"⟩
theorem dX0_gather_0 : decode cX0_gather 0 = .ok (.iconst 0, 1) := by decide +kernel
theorem dX0_gather_1 : decode cX0_gather 1 = .ok (.istore_n 1, 1) := by decide +kernel
theorem dX0_gather_2 : decode cX0_gather 2 = .ok (.iload_n 1, 1) := by decide +kernel
theorem dX0_gather_3 : decode cX0_gather 3 = .ok (.sipush 526, 3) := by decide +kernel
theorem dX0_gather_6 : decode cX0_gather 6 = .ok (.if_icmp .ge 117, 3) := by decide +kernel
theorem dX0_gather_9 : decode cX0_gather 9 = .ok (.iconst 0, 1) := by decide +kernel
theorem dX0_gather_10 : decode cX0_gather 10 = .ok (.istore_n 2, 1) := by decide +kernel
theorem dX0_gather_11 : decode cX0_gather 11 = .ok (.iload_n 2, 1) := by decide +kernel
theorem dX0_gather_12 : decode cX0_gather 12 = .ok (.bipush 32, 2) := by decide +kernel
theorem dX0_gather_14 : decode cX0_gather 14 = .ok (.if_icmp .ge 103, 3) := by decide +kernel
theorem dX0_gather_17 : decode cX0_gather 17 = .ok (.aload_n 0, 1) := by decide +kernel
theorem dX0_gather_18 : decode cX0_gather 18 = .ok (.getfield 13, 3) := by decide +kernel
theorem dX0_gather_21 : decode cX0_gather 21 = .ok (.iload_n 1, 1) := by decide +kernel
theorem dX0_gather_22 : decode cX0_gather 22 = .ok (.iaload, 1) := by decide +kernel
theorem dX0_gather_23 : decode cX0_gather 23 = .ok (.ifCond .eq 94, 3) := by decide +kernel
theorem dX0_gather_26 : decode cX0_gather 26 = .ok (.bipush 32, 2) := by decide +kernel
theorem dX0_gather_28 : decode cX0_gather 28 = .ok (.iload_n 1, 1) := by decide +kernel
theorem dX0_gather_29 : decode cX0_gather 29 = .ok (.imul, 1) := by decide +kernel
theorem dX0_gather_30 : decode cX0_gather 30 = .ok (.iload_n 2, 1) := by decide +kernel
theorem dX0_gather_31 : decode cX0_gather 31 = .ok (.iadd, 1) := by decide +kernel
theorem dX0_gather_32 : decode cX0_gather 32 = .ok (.istore_n 3, 1) := by decide +kernel
theorem dX0_gather_33 : decode cX0_gather 33 = .ok (.aload_n 0, 1) := by decide +kernel
theorem dX0_gather_34 : decode cX0_gather 34 = .ok (.getfield 13, 3) := by decide +kernel
theorem dX0_gather_37 : decode cX0_gather 37 = .ok (.iload_n 1, 1) := by decide +kernel
theorem dX0_gather_38 : decode cX0_gather 38 = .ok (.iaload, 1) := by decide +kernel
theorem dX0_gather_39 : decode cX0_gather 39 = .ok (.iload_n 2, 1) := by decide +kernel
theorem dX0_gather_40 : decode cX0_gather 40 = .ok (.iushr, 1) := by decide +kernel
theorem dX0_gather_41 : decode cX0_gather 41 = .ok (.iconst 1, 1) := by decide +kernel
theorem dX0_gather_42 : decode cX0_gather 42 = .ok (.iand, 1) := by decide +kernel
theorem dX0_gather_43 : decode cX0_gather 43 = .ok (.iconst 1, 1) := by decide +kernel
theorem dX0_gather_44 : decode cX0_gather 44 = .ok (.if_icmp .ne 67, 3) := by decide +kernel
theorem dX0_gather_47 : decode cX0_gather 47 = .ok (.aload_n 0, 1) := by decide +kernel
theorem dX0_gather_48 : decode cX0_gather 48 = .ok (.iload_n 3, 1) := by decide +kernel
theorem dX0_gather_49 : decode cX0_gather 49 = .ok (.invokevirtual 45, 3) := by decide +kernel
theorem dX0_gather_52 : decode cX0_gather 52 = .ok (.ifCond .ne 59, 3) := by decide +kernel
theorem dX0_gather_55 : decode cX0_gather 55 = .ok (.aload_n 0, 1) := by decide +kernel
theorem dX0_gather_56 : decode cX0_gather 56 = .ok (.iload_n 3, 1) := by decide +kernel
theorem dX0_gather_57 : decode cX0_gather 57 = .ok (.invokevirtual 87, 3) := by decide +kernel
theorem dX0_gather_60 : decode cX0_gather 60 = .ok (.ifCond .ne 33, 3) := by decide +kernel
theorem dX0_gather_63 : decode cX0_gather 63 = .ok (.aload_n 0, 1) := by decide +kernel
theorem dX0_gather_64 : decode cX0_gather 64 = .ok (.getfield 55, 3) := by decide +kernel
theorem dX0_gather_67 : decode cX0_gather 67 = .ok (.sipush 400, 3) := by decide +kernel
theorem dX0_gather_70 : decode cX0_gather 70 = .ok (.if_icmp .ge 23, 3) := by decide +kernel
theorem dX0_gather_73 : decode cX0_gather 73 = .ok (.aload_n 0, 1) := by decide +kernel
theorem dX0_gather_74 : decode cX0_gather 74 = .ok (.getfield 19, 3) := by decide +kernel
theorem dX0_gather_77 : decode cX0_gather 77 = .ok (.aload_n 0, 1) := by decide +kernel
theorem dX0_gather_78 : decode cX0_gather 78 = .ok (.getfield 55, 3) := by decide +kernel
theorem dX0_gather_81 : decode cX0_gather 81 = .ok (.iload_n 3, 1) := by decide +kernel
theorem dX0_gather_82 : decode cX0_gather 82 = .ok (.iastore, 1) := by decide +kernel
theorem dX0_gather_83 : decode cX0_gather 83 = .ok (.aload_n 0, 1) := by decide +kernel
theorem dX0_gather_84 : decode cX0_gather 84 = .ok (.dup, 1) := by decide +kernel
theorem dX0_gather_85 : decode cX0_gather 85 = .ok (.getfield 55, 3) := by decide +kernel
theorem dX0_gather_88 : decode cX0_gather 88 = .ok (.iconst 1, 1) := by decide +kernel
theorem dX0_gather_89 : decode cX0_gather 89 = .ok (.iadd, 1) := by decide +kernel
theorem dX0_gather_90 : decode cX0_gather 90 = .ok (.putfield 55, 3) := by decide +kernel
theorem dX0_gather_93 : decode cX0_gather 93 = .ok (.aload_n 0, 1) := by decide +kernel
theorem dX0_gather_94 : decode cX0_gather 94 = .ok (.getfield 13, 3) := by decide +kernel
theorem dX0_gather_97 : decode cX0_gather 97 = .ok (.iload_n 1, 1) := by decide +kernel
theorem dX0_gather_98 : decode cX0_gather 98 = .ok (.aload_n 0, 1) := by decide +kernel
theorem dX0_gather_99 : decode cX0_gather 99 = .ok (.getfield 13, 3) := by decide +kernel
theorem dX0_gather_102 : decode cX0_gather 102 = .ok (.iload_n 1, 1) := by decide +kernel
theorem dX0_gather_103 : decode cX0_gather 103 = .ok (.iaload, 1) := by decide +kernel
theorem dX0_gather_104 : decode cX0_gather 104 = .ok (.iconst 1, 1) := by decide +kernel
theorem dX0_gather_105 : decode cX0_gather 105 = .ok (.iload_n 2, 1) := by decide +kernel
theorem dX0_gather_106 : decode cX0_gather 106 = .ok (.ishl, 1) := by decide +kernel
theorem dX0_gather_107 : decode cX0_gather 107 = .ok (.iconst (-1), 1) := by decide +kernel
theorem dX0_gather_108 : decode cX0_gather 108 = .ok (.ixor, 1) := by decide +kernel
theorem dX0_gather_109 : decode cX0_gather 109 = .ok (.iand, 1) := by decide +kernel
theorem dX0_gather_110 : decode cX0_gather 110 = .ok (.iastore, 1) := by decide +kernel
theorem dX0_gather_111 : decode cX0_gather 111 = .ok (.iinc 2 1, 3) := by decide +kernel
theorem dX0_gather_114 : decode cX0_gather 114 = .ok (.goto (-103), 3) := by decide +kernel
theorem dX0_gather_117 : decode cX0_gather 117 = .ok (.iinc 1 1, 3) := by decide +kernel
theorem dX0_gather_120 : decode cX0_gather 120 = .ok (.goto (-118), 3) := by decide +kernel
theorem dX0_gather_123 : decode cX0_gather 123 = .ok (.return_, 1) := by decide +kernel
abbrev cX0_hasPart : ByteArray := prog_1_method_22_code
def yX0_hasPart : MethodName := ⟨RX0, "hasPart", "(I)Z"⟩
theorem dX0_hasPart_0 : decode cX0_hasPart 0 = .ok (.iconst 0, 1) := by decide +kernel
theorem dX0_hasPart_1 : decode cX0_hasPart 1 = .ok (.istore_n 2, 1) := by decide +kernel
theorem dX0_hasPart_2 : decode cX0_hasPart 2 = .ok (.iload_n 2, 1) := by decide +kernel
theorem dX0_hasPart_3 : decode cX0_hasPart 3 = .ok (.aload_n 0, 1) := by decide +kernel
theorem dX0_hasPart_4 : decode cX0_hasPart 4 = .ok (.getfield 55, 3) := by decide +kernel
theorem dX0_hasPart_7 : decode cX0_hasPart 7 = .ok (.if_icmp .ge 25, 3) := by decide +kernel
theorem dX0_hasPart_10 : decode cX0_hasPart 10 = .ok (.aload_n 0, 1) := by decide +kernel
theorem dX0_hasPart_11 : decode cX0_hasPart 11 = .ok (.aload_n 0, 1) := by decide +kernel
theorem dX0_hasPart_12 : decode cX0_hasPart 12 = .ok (.getfield 19, 3) := by decide +kernel
theorem dX0_hasPart_15 : decode cX0_hasPart 15 = .ok (.iload_n 2, 1) := by decide +kernel
theorem dX0_hasPart_16 : decode cX0_hasPart 16 = .ok (.iaload, 1) := by decide +kernel
theorem dX0_hasPart_17 : decode cX0_hasPart 17 = .ok (.iload_n 1, 1) := by decide +kernel
theorem dX0_hasPart_18 : decode cX0_hasPart 18 = .ok (.invokevirtual 74, 3) := by decide +kernel
theorem dX0_hasPart_21 : decode cX0_hasPart 21 = .ok (.ifCond .eq 5, 3) := by decide +kernel
theorem dX0_hasPart_24 : decode cX0_hasPart 24 = .ok (.iconst 1, 1) := by decide +kernel
theorem dX0_hasPart_25 : decode cX0_hasPart 25 = .ok (.ireturn, 1) := by decide +kernel
theorem dX0_hasPart_26 : decode cX0_hasPart 26 = .ok (.iinc 2 1, 3) := by decide +kernel
theorem dX0_hasPart_29 : decode cX0_hasPart 29 = .ok (.goto (-27), 3) := by decide +kernel
theorem dX0_hasPart_32 : decode cX0_hasPart 32 = .ok (.iconst 0, 1) := by decide +kernel
theorem dX0_hasPart_33 : decode cX0_hasPart 33 = .ok (.ireturn, 1) := by decide +kernel
abbrev cX0_isPart : ByteArray := prog_1_method_21_code
def yX0_isPart : MethodName := ⟨RX0, "isPart", "(II)Z"⟩
theorem dX0_isPart_0 : decode cX0_isPart 0 = .ok (.iconst 0, 1) := by decide +kernel
theorem dX0_isPart_1 : decode cX0_isPart 1 = .ok (.istore_n 3, 1) := by decide +kernel
theorem dX0_isPart_2 : decode cX0_isPart 2 = .ok (.iload_n 3, 1) := by decide +kernel
theorem dX0_isPart_3 : decode cX0_isPart 3 = .ok (.iconst 5, 1) := by decide +kernel
theorem dX0_isPart_4 : decode cX0_isPart 4 = .ok (.if_icmp .ge 26, 3) := by decide +kernel
theorem dX0_isPart_7 : decode cX0_isPart 7 = .ok (.aload_n 0, 1) := by decide +kernel
theorem dX0_isPart_8 : decode cX0_isPart 8 = .ok (.iload_n 1, 1) := by decide +kernel
theorem dX0_isPart_9 : decode cX0_isPart 9 = .ok (.iload_n 3, 1) := by decide +kernel
theorem dX0_isPart_10 : decode cX0_isPart 10 = .ok (.invokevirtual 59, 3) := by decide +kernel
theorem dX0_isPart_13 : decode cX0_isPart 13 = .ok (.aload_n 0, 1) := by decide +kernel
theorem dX0_isPart_14 : decode cX0_isPart 14 = .ok (.iload_n 2, 1) := by decide +kernel
theorem dX0_isPart_15 : decode cX0_isPart 15 = .ok (.iload_n 3, 1) := by decide +kernel
theorem dX0_isPart_16 : decode cX0_isPart 16 = .ok (.invokevirtual 59, 3) := by decide +kernel
theorem dX0_isPart_19 : decode cX0_isPart 19 = .ok (.if_icmp .le 5, 3) := by decide +kernel
theorem dX0_isPart_22 : decode cX0_isPart 22 = .ok (.iconst 0, 1) := by decide +kernel
theorem dX0_isPart_23 : decode cX0_isPart 23 = .ok (.ireturn, 1) := by decide +kernel
theorem dX0_isPart_24 : decode cX0_isPart 24 = .ok (.iinc 3 1, 3) := by decide +kernel
theorem dX0_isPart_27 : decode cX0_isPart 27 = .ok (.goto (-25), 3) := by decide +kernel
theorem dX0_isPart_30 : decode cX0_isPart 30 = .ok (.iconst 1, 1) := by decide +kernel
theorem dX0_isPart_31 : decode cX0_isPart 31 = .ok (.ireturn, 1) := by decide +kernel
abbrev cX0_grow : ByteArray := prog_1_method_26_code
def yX0_grow : MethodName := ⟨RX0, "grow", "()V"⟩
theorem dX0_grow_0 : decode cX0_grow 0 = .ok (.iconst 0, 1) := by decide +kernel
theorem dX0_grow_1 : decode cX0_grow 1 = .ok (.istore_n 1, 1) := by decide +kernel
theorem dX0_grow_2 : decode cX0_grow 2 = .ok (.iload_n 1, 1) := by decide +kernel
theorem dX0_grow_3 : decode cX0_grow 3 = .ok (.sipush 526, 3) := by decide +kernel
theorem dX0_grow_6 : decode cX0_grow 6 = .ok (.if_icmp .ge 16, 3) := by decide +kernel
theorem dX0_grow_9 : decode cX0_grow 9 = .ok (.aload_n 0, 1) := by decide +kernel
theorem dX0_grow_10 : decode cX0_grow 10 = .ok (.getfield 16, 3) := by decide +kernel
theorem dX0_grow_13 : decode cX0_grow 13 = .ok (.iload_n 1, 1) := by decide +kernel
theorem dX0_grow_14 : decode cX0_grow 14 = .ok (.iconst 0, 1) := by decide +kernel
theorem dX0_grow_15 : decode cX0_grow 15 = .ok (.iastore, 1) := by decide +kernel
theorem dX0_grow_16 : decode cX0_grow 16 = .ok (.iinc 1 1, 3) := by decide +kernel
theorem dX0_grow_19 : decode cX0_grow 19 = .ok (.goto (-17), 3) := by decide +kernel
theorem dX0_grow_22 : decode cX0_grow 22 = .ok (.iconst 0, 1) := by decide +kernel
theorem dX0_grow_23 : decode cX0_grow 23 = .ok (.istore_n 1, 1) := by decide +kernel
theorem dX0_grow_24 : decode cX0_grow 24 = .ok (.iload_n 1, 1) := by decide +kernel
theorem dX0_grow_25 : decode cX0_grow 25 = .ok (.sipush 16807, 3) := by decide +kernel
theorem dX0_grow_28 : decode cX0_grow 28 = .ok (.if_icmp .ge 33, 3) := by decide +kernel
theorem dX0_grow_31 : decode cX0_grow 31 = .ok (.aload_n 0, 1) := by decide +kernel
theorem dX0_grow_32 : decode cX0_grow 32 = .ok (.getfield 13, 3) := by decide +kernel
theorem dX0_grow_35 : decode cX0_grow 35 = .ok (.iload_n 1, 1) := by decide +kernel
theorem dX0_grow_36 : decode cX0_grow 36 = .ok (.iconst 5, 1) := by decide +kernel
theorem dX0_grow_37 : decode cX0_grow 37 = .ok (.ishr, 1) := by decide +kernel
theorem dX0_grow_38 : decode cX0_grow 38 = .ok (.iaload, 1) := by decide +kernel
theorem dX0_grow_39 : decode cX0_grow 39 = .ok (.iload_n 1, 1) := by decide +kernel
theorem dX0_grow_40 : decode cX0_grow 40 = .ok (.bipush 31, 2) := by decide +kernel
theorem dX0_grow_42 : decode cX0_grow 42 = .ok (.iand, 1) := by decide +kernel
theorem dX0_grow_43 : decode cX0_grow 43 = .ok (.iushr, 1) := by decide +kernel
theorem dX0_grow_44 : decode cX0_grow 44 = .ok (.iconst 1, 1) := by decide +kernel
theorem dX0_grow_45 : decode cX0_grow 45 = .ok (.iand, 1) := by decide +kernel
theorem dX0_grow_46 : decode cX0_grow 46 = .ok (.iconst 1, 1) := by decide +kernel
theorem dX0_grow_47 : decode cX0_grow 47 = .ok (.if_icmp .ne 8, 3) := by decide +kernel
theorem dX0_grow_50 : decode cX0_grow 50 = .ok (.aload_n 0, 1) := by decide +kernel
theorem dX0_grow_51 : decode cX0_grow 51 = .ok (.iload_n 1, 1) := by decide +kernel
theorem dX0_grow_52 : decode cX0_grow 52 = .ok (.invokevirtual 90, 3) := by decide +kernel
theorem dX0_grow_55 : decode cX0_grow 55 = .ok (.iinc 1 1, 3) := by decide +kernel
theorem dX0_grow_58 : decode cX0_grow 58 = .ok (.goto (-34), 3) := by decide +kernel
theorem dX0_grow_61 : decode cX0_grow 61 = .ok (.return_, 1) := by decide +kernel
abbrev cX0_growRow : ByteArray := prog_1_method_27_code
def yX0_growRow : MethodName := ⟨RX0, "growRow", "(I)V"⟩
theorem dX0_growRow_0 : decode cX0_growRow 0 = .ok (.aload_n 0, 1) := by decide +kernel
theorem dX0_growRow_1 : decode cX0_growRow 1 = .ok (.iload_n 1, 1) := by decide +kernel
theorem dX0_growRow_2 : decode cX0_growRow 2 = .ok (.invokevirtual 45, 3) := by decide +kernel
theorem dX0_growRow_5 : decode cX0_growRow 5 = .ok (.istore_n 2, 1) := by decide +kernel
theorem dX0_growRow_6 : decode cX0_growRow 6 = .ok (.iconst 0, 1) := by decide +kernel
theorem dX0_growRow_7 : decode cX0_growRow 7 = .ok (.istore_n 3, 1) := by decide +kernel
theorem dX0_growRow_8 : decode cX0_growRow 8 = .ok (.iload_n 3, 1) := by decide +kernel
theorem dX0_growRow_9 : decode cX0_growRow 9 = .ok (.iconst 5, 1) := by decide +kernel
theorem dX0_growRow_10 : decode cX0_growRow 10 = .ok (.if_icmp .ge 107, 3) := by decide +kernel
theorem dX0_growRow_13 : decode cX0_growRow 13 = .ok (.iload_n 2, 1) := by decide +kernel
theorem dX0_growRow_14 : decode cX0_growRow 14 = .ok (.ifCond .le 20, 3) := by decide +kernel
theorem dX0_growRow_17 : decode cX0_growRow 17 = .ok (.aload_n 0, 1) := by decide +kernel
theorem dX0_growRow_18 : decode cX0_growRow 18 = .ok (.getfield 7, 3) := by decide +kernel
theorem dX0_growRow_21 : decode cX0_growRow 21 = .ok (.iload_n 3, 1) := by decide +kernel
theorem dX0_growRow_22 : decode cX0_growRow 22 = .ok (.iaload, 1) := by decide +kernel
theorem dX0_growRow_23 : decode cX0_growRow 23 = .ok (.ifCond .ge 7, 3) := by decide +kernel
theorem dX0_growRow_26 : decode cX0_growRow 26 = .ok (.iconst 1, 1) := by decide +kernel
theorem dX0_growRow_27 : decode cX0_growRow 27 = .ok (.goto 21, 3) := by decide +kernel
theorem dX0_growRow_30 : decode cX0_growRow 30 = .ok (.iconst 0, 1) := by decide +kernel
theorem dX0_growRow_31 : decode cX0_growRow 31 = .ok (.goto 17, 3) := by decide +kernel
theorem dX0_growRow_34 : decode cX0_growRow 34 = .ok (.aload_n 0, 1) := by decide +kernel
theorem dX0_growRow_35 : decode cX0_growRow 35 = .ok (.getfield 7, 3) := by decide +kernel
theorem dX0_growRow_38 : decode cX0_growRow 38 = .ok (.iload_n 3, 1) := by decide +kernel
theorem dX0_growRow_39 : decode cX0_growRow 39 = .ok (.iaload, 1) := by decide +kernel
theorem dX0_growRow_40 : decode cX0_growRow 40 = .ok (.ifCond .le 7, 3) := by decide +kernel
theorem dX0_growRow_43 : decode cX0_growRow 43 = .ok (.iconst 1, 1) := by decide +kernel
theorem dX0_growRow_44 : decode cX0_growRow 44 = .ok (.goto 4, 3) := by decide +kernel
theorem dX0_growRow_47 : decode cX0_growRow 47 = .ok (.iconst 0, 1) := by decide +kernel
theorem dX0_growRow_48 : decode cX0_growRow 48 = .ok (.istore 4, 2) := by decide +kernel
theorem dX0_growRow_50 : decode cX0_growRow 50 = .ok (.iload 4, 2) := by decide +kernel
theorem dX0_growRow_52 : decode cX0_growRow 52 = .ok (.ifCond .eq 59, 3) := by decide +kernel
theorem dX0_growRow_55 : decode cX0_growRow 55 = .ok (.aload_n 0, 1) := by decide +kernel
theorem dX0_growRow_56 : decode cX0_growRow 56 = .ok (.iload_n 1, 1) := by decide +kernel
theorem dX0_growRow_57 : decode cX0_growRow 57 = .ok (.iload_n 3, 1) := by decide +kernel
theorem dX0_growRow_58 : decode cX0_growRow 58 = .ok (.invokevirtual 59, 3) := by decide +kernel
theorem dX0_growRow_61 : decode cX0_growRow 61 = .ok (.bipush 6, 2) := by decide +kernel
theorem dX0_growRow_63 : decode cX0_growRow 63 = .ok (.if_icmp .ge 48, 3) := by decide +kernel
theorem dX0_growRow_66 : decode cX0_growRow 66 = .ok (.iload_n 1, 1) := by decide +kernel
theorem dX0_growRow_67 : decode cX0_growRow 67 = .ok (.aload_n 0, 1) := by decide +kernel
theorem dX0_growRow_68 : decode cX0_growRow 68 = .ok (.getfield 22, 3) := by decide +kernel
theorem dX0_growRow_71 : decode cX0_growRow 71 = .ok (.iload_n 3, 1) := by decide +kernel
theorem dX0_growRow_72 : decode cX0_growRow 72 = .ok (.iaload, 1) := by decide +kernel
theorem dX0_growRow_73 : decode cX0_growRow 73 = .ok (.iadd, 1) := by decide +kernel
theorem dX0_growRow_74 : decode cX0_growRow 74 = .ok (.istore 5, 2) := by decide +kernel
theorem dX0_growRow_76 : decode cX0_growRow 76 = .ok (.aload_n 0, 1) := by decide +kernel
theorem dX0_growRow_77 : decode cX0_growRow 77 = .ok (.iload 5, 2) := by decide +kernel
theorem dX0_growRow_79 : decode cX0_growRow 79 = .ok (.invokevirtual 87, 3) := by decide +kernel
theorem dX0_growRow_82 : decode cX0_growRow 82 = .ok (.ifCond .ne 29, 3) := by decide +kernel
theorem dX0_growRow_85 : decode cX0_growRow 85 = .ok (.aload_n 0, 1) := by decide +kernel
theorem dX0_growRow_86 : decode cX0_growRow 86 = .ok (.getfield 16, 3) := by decide +kernel
theorem dX0_growRow_89 : decode cX0_growRow 89 = .ok (.iload 5, 2) := by decide +kernel
theorem dX0_growRow_91 : decode cX0_growRow 91 = .ok (.iconst 5, 1) := by decide +kernel
theorem dX0_growRow_92 : decode cX0_growRow 92 = .ok (.ishr, 1) := by decide +kernel
theorem dX0_growRow_93 : decode cX0_growRow 93 = .ok (.aload_n 0, 1) := by decide +kernel
theorem dX0_growRow_94 : decode cX0_growRow 94 = .ok (.getfield 16, 3) := by decide +kernel
theorem dX0_growRow_97 : decode cX0_growRow 97 = .ok (.iload 5, 2) := by decide +kernel
theorem dX0_growRow_99 : decode cX0_growRow 99 = .ok (.iconst 5, 1) := by decide +kernel
theorem dX0_growRow_100 : decode cX0_growRow 100 = .ok (.ishr, 1) := by decide +kernel
theorem dX0_growRow_101 : decode cX0_growRow 101 = .ok (.iaload, 1) := by decide +kernel
theorem dX0_growRow_102 : decode cX0_growRow 102 = .ok (.iconst 1, 1) := by decide +kernel
theorem dX0_growRow_103 : decode cX0_growRow 103 = .ok (.iload 5, 2) := by decide +kernel
theorem dX0_growRow_105 : decode cX0_growRow 105 = .ok (.bipush 31, 2) := by decide +kernel
theorem dX0_growRow_107 : decode cX0_growRow 107 = .ok (.iand, 1) := by decide +kernel
theorem dX0_growRow_108 : decode cX0_growRow 108 = .ok (.ishl, 1) := by decide +kernel
theorem dX0_growRow_109 : decode cX0_growRow 109 = .ok (.ior, 1) := by decide +kernel
theorem dX0_growRow_110 : decode cX0_growRow 110 = .ok (.iastore, 1) := by decide +kernel
theorem dX0_growRow_111 : decode cX0_growRow 111 = .ok (.iinc 3 1, 3) := by decide +kernel
theorem dX0_growRow_114 : decode cX0_growRow 114 = .ok (.goto (-106), 3) := by decide +kernel
theorem dX0_growRow_117 : decode cX0_growRow 117 = .ok (.return_, 1) := by decide +kernel
abbrev cX0_sortList : ByteArray := prog_1_method_28_code
def yX0_sortList : MethodName := ⟨RX0, "sortList", "()V"⟩
theorem dX0_sortList_0 : decode cX0_sortList 0 = .ok (.iconst 1, 1) := by decide +kernel
theorem dX0_sortList_1 : decode cX0_sortList 1 = .ok (.istore_n 1, 1) := by decide +kernel
theorem dX0_sortList_2 : decode cX0_sortList 2 = .ok (.iload_n 1, 1) := by decide +kernel
theorem dX0_sortList_3 : decode cX0_sortList 3 = .ok (.aload_n 0, 1) := by decide +kernel
theorem dX0_sortList_4 : decode cX0_sortList 4 = .ok (.getfield 55, 3) := by decide +kernel
theorem dX0_sortList_7 : decode cX0_sortList 7 = .ok (.if_icmp .ge 61, 3) := by decide +kernel
theorem dX0_sortList_10 : decode cX0_sortList 10 = .ok (.aload_n 0, 1) := by decide +kernel
theorem dX0_sortList_11 : decode cX0_sortList 11 = .ok (.getfield 19, 3) := by decide +kernel
theorem dX0_sortList_14 : decode cX0_sortList 14 = .ok (.iload_n 1, 1) := by decide +kernel
theorem dX0_sortList_15 : decode cX0_sortList 15 = .ok (.iaload, 1) := by decide +kernel
theorem dX0_sortList_16 : decode cX0_sortList 16 = .ok (.istore_n 2, 1) := by decide +kernel
theorem dX0_sortList_17 : decode cX0_sortList 17 = .ok (.iload_n 1, 1) := by decide +kernel
theorem dX0_sortList_18 : decode cX0_sortList 18 = .ok (.istore_n 3, 1) := by decide +kernel
theorem dX0_sortList_19 : decode cX0_sortList 19 = .ok (.iload_n 3, 1) := by decide +kernel
theorem dX0_sortList_20 : decode cX0_sortList 20 = .ok (.ifCond .le 35, 3) := by decide +kernel
theorem dX0_sortList_23 : decode cX0_sortList 23 = .ok (.aload_n 0, 1) := by decide +kernel
theorem dX0_sortList_24 : decode cX0_sortList 24 = .ok (.getfield 19, 3) := by decide +kernel
theorem dX0_sortList_27 : decode cX0_sortList 27 = .ok (.iload_n 3, 1) := by decide +kernel
theorem dX0_sortList_28 : decode cX0_sortList 28 = .ok (.iconst 1, 1) := by decide +kernel
theorem dX0_sortList_29 : decode cX0_sortList 29 = .ok (.isub, 1) := by decide +kernel
theorem dX0_sortList_30 : decode cX0_sortList 30 = .ok (.iaload, 1) := by decide +kernel
theorem dX0_sortList_31 : decode cX0_sortList 31 = .ok (.iload_n 2, 1) := by decide +kernel
theorem dX0_sortList_32 : decode cX0_sortList 32 = .ok (.if_icmp .le 23, 3) := by decide +kernel
theorem dX0_sortList_35 : decode cX0_sortList 35 = .ok (.aload_n 0, 1) := by decide +kernel
theorem dX0_sortList_36 : decode cX0_sortList 36 = .ok (.getfield 19, 3) := by decide +kernel
theorem dX0_sortList_39 : decode cX0_sortList 39 = .ok (.iload_n 3, 1) := by decide +kernel
theorem dX0_sortList_40 : decode cX0_sortList 40 = .ok (.aload_n 0, 1) := by decide +kernel
theorem dX0_sortList_41 : decode cX0_sortList 41 = .ok (.getfield 19, 3) := by decide +kernel
theorem dX0_sortList_44 : decode cX0_sortList 44 = .ok (.iload_n 3, 1) := by decide +kernel
theorem dX0_sortList_45 : decode cX0_sortList 45 = .ok (.iconst 1, 1) := by decide +kernel
theorem dX0_sortList_46 : decode cX0_sortList 46 = .ok (.isub, 1) := by decide +kernel
theorem dX0_sortList_47 : decode cX0_sortList 47 = .ok (.iaload, 1) := by decide +kernel
theorem dX0_sortList_48 : decode cX0_sortList 48 = .ok (.iastore, 1) := by decide +kernel
theorem dX0_sortList_49 : decode cX0_sortList 49 = .ok (.iinc 3 (-1), 3) := by decide +kernel
theorem dX0_sortList_52 : decode cX0_sortList 52 = .ok (.goto (-33), 3) := by decide +kernel
theorem dX0_sortList_55 : decode cX0_sortList 55 = .ok (.aload_n 0, 1) := by decide +kernel
theorem dX0_sortList_56 : decode cX0_sortList 56 = .ok (.getfield 19, 3) := by decide +kernel
theorem dX0_sortList_59 : decode cX0_sortList 59 = .ok (.iload_n 3, 1) := by decide +kernel
theorem dX0_sortList_60 : decode cX0_sortList 60 = .ok (.iload_n 2, 1) := by decide +kernel
theorem dX0_sortList_61 : decode cX0_sortList 61 = .ok (.iastore, 1) := by decide +kernel
theorem dX0_sortList_62 : decode cX0_sortList 62 = .ok (.iinc 1 1, 3) := by decide +kernel
theorem dX0_sortList_65 : decode cX0_sortList 65 = .ok (.goto (-63), 3) := by decide +kernel
theorem dX0_sortList_68 : decode cX0_sortList 68 = .ok (.return_, 1) := by decide +kernel
abbrev cX0_place : ByteArray := prog_1_method_23_code
def yX0_place : MethodName := ⟨RX0, "place", "(I)I"⟩
theorem dX0_place_0 : decode cX0_place 0 = .ok (.iconst 0, 1) := by decide +kernel
theorem dX0_place_1 : decode cX0_place 1 = .ok (.istore_n 2, 1) := by decide +kernel
theorem dX0_place_2 : decode cX0_place 2 = .ok (.iload_n 2, 1) := by decide +kernel
theorem dX0_place_3 : decode cX0_place 3 = .ok (.aload_n 0, 1) := by decide +kernel
theorem dX0_place_4 : decode cX0_place 4 = .ok (.getfield 55, 3) := by decide +kernel
theorem dX0_place_7 : decode cX0_place 7 = .ok (.if_icmp .ge 21, 3) := by decide +kernel
theorem dX0_place_10 : decode cX0_place 10 = .ok (.aload_n 0, 1) := by decide +kernel
theorem dX0_place_11 : decode cX0_place 11 = .ok (.getfield 19, 3) := by decide +kernel
theorem dX0_place_14 : decode cX0_place 14 = .ok (.iload_n 2, 1) := by decide +kernel
theorem dX0_place_15 : decode cX0_place 15 = .ok (.iaload, 1) := by decide +kernel
theorem dX0_place_16 : decode cX0_place 16 = .ok (.iload_n 1, 1) := by decide +kernel
theorem dX0_place_17 : decode cX0_place 17 = .ok (.if_icmp .ne 5, 3) := by decide +kernel
theorem dX0_place_20 : decode cX0_place 20 = .ok (.iload_n 2, 1) := by decide +kernel
theorem dX0_place_21 : decode cX0_place 21 = .ok (.ireturn, 1) := by decide +kernel
theorem dX0_place_22 : decode cX0_place 22 = .ok (.iinc 2 1, 3) := by decide +kernel
theorem dX0_place_25 : decode cX0_place 25 = .ok (.goto (-23), 3) := by decide +kernel
theorem dX0_place_28 : decode cX0_place 28 = .ok (.iconst (-1), 1) := by decide +kernel
theorem dX0_place_29 : decode cX0_place 29 = .ok (.ireturn, 1) := by decide +kernel
abbrev cX0_least : ByteArray := prog_1_method_7_code
def yX0_least : MethodName := ⟨RX0, "least", "()I"⟩
theorem dX0_least_0 : decode cX0_least 0 = .ok (.aload_n 0, 1) := by decide +kernel
theorem dX0_least_1 : decode cX0_least 1 = .ok (.invokevirtual 49, 3) := by decide +kernel
theorem dX0_least_4 : decode cX0_least 4 = .ok (.aload_n 0, 1) := by decide +kernel
theorem dX0_least_5 : decode cX0_least 5 = .ok (.getfield 55, 3) := by decide +kernel
theorem dX0_least_8 : decode cX0_least 8 = .ok (.ireturn, 1) := by decide +kernel
abbrev cX0_code : ByteArray := prog_1_method_8_code
def yX0_code : MethodName := ⟨RX0, "code", "(I)I"⟩
theorem dX0_code_0 : decode cX0_code 0 = .ok (.aload_n 0, 1) := by decide +kernel
theorem dX0_code_1 : decode cX0_code 1 = .ok (.invokevirtual 49, 3) := by decide +kernel
theorem dX0_code_4 : decode cX0_code 4 = .ok (.iload_n 1, 1) := by decide +kernel
theorem dX0_code_5 : decode cX0_code 5 = .ok (.ifCond .lt 20, 3) := by decide +kernel
theorem dX0_code_8 : decode cX0_code 8 = .ok (.iload_n 1, 1) := by decide +kernel
theorem dX0_code_9 : decode cX0_code 9 = .ok (.aload_n 0, 1) := by decide +kernel
theorem dX0_code_10 : decode cX0_code 10 = .ok (.getfield 55, 3) := by decide +kernel
theorem dX0_code_13 : decode cX0_code 13 = .ok (.if_icmp .ge 12, 3) := by decide +kernel
theorem dX0_code_16 : decode cX0_code 16 = .ok (.aload_n 0, 1) := by decide +kernel
theorem dX0_code_17 : decode cX0_code 17 = .ok (.getfield 19, 3) := by decide +kernel
theorem dX0_code_20 : decode cX0_code 20 = .ok (.iload_n 1, 1) := by decide +kernel
theorem dX0_code_21 : decode cX0_code 21 = .ok (.iaload, 1) := by decide +kernel
theorem dX0_code_22 : decode cX0_code 22 = .ok (.goto 4, 3) := by decide +kernel
theorem dX0_code_25 : decode cX0_code 25 = .ok (.iconst (-1), 1) := by decide +kernel
theorem dX0_code_26 : decode cX0_code 26 = .ok (.ireturn, 1) := by decide +kernel
abbrev cX0_using : ByteArray := prog_1_method_9_code
def yX0_using : MethodName := ⟨RX0, "using", "(I)I"⟩
theorem dX0_using_0 : decode cX0_using 0 = .ok (.iload_n 1, 1) := by decide +kernel
theorem dX0_using_1 : decode cX0_using 1 = .ok (.invokestatic 34, 3) := by decide +kernel
theorem dX0_using_4 : decode cX0_using 4 = .ok (.ifCond .ne 5, 3) := by decide +kernel
theorem dX0_using_7 : decode cX0_using 7 = .ok (.iconst (-1), 1) := by decide +kernel
theorem dX0_using_8 : decode cX0_using 8 = .ok (.ireturn, 1) := by decide +kernel
theorem dX0_using_9 : decode cX0_using 9 = .ok (.aload_n 0, 1) := by decide +kernel
theorem dX0_using_10 : decode cX0_using 10 = .ok (.invokevirtual 49, 3) := by decide +kernel
theorem dX0_using_13 : decode cX0_using 13 = .ok (.iconst 0, 1) := by decide +kernel
theorem dX0_using_14 : decode cX0_using 14 = .ok (.istore_n 2, 1) := by decide +kernel
theorem dX0_using_15 : decode cX0_using 15 = .ok (.iconst 0, 1) := by decide +kernel
theorem dX0_using_16 : decode cX0_using 16 = .ok (.istore_n 3, 1) := by decide +kernel
theorem dX0_using_17 : decode cX0_using 17 = .ok (.iload_n 3, 1) := by decide +kernel
theorem dX0_using_18 : decode cX0_using 18 = .ok (.aload_n 0, 1) := by decide +kernel
theorem dX0_using_19 : decode cX0_using 19 = .ok (.getfield 55, 3) := by decide +kernel
theorem dX0_using_22 : decode cX0_using 22 = .ok (.if_icmp .ge 31, 3) := by decide +kernel
theorem dX0_using_25 : decode cX0_using 25 = .ok (.iload_n 2, 1) := by decide +kernel
theorem dX0_using_26 : decode cX0_using 26 = .ok (.aload_n 0, 1) := by decide +kernel
theorem dX0_using_27 : decode cX0_using 27 = .ok (.aload_n 0, 1) := by decide +kernel
theorem dX0_using_28 : decode cX0_using 28 = .ok (.getfield 19, 3) := by decide +kernel
theorem dX0_using_31 : decode cX0_using 31 = .ok (.iload_n 3, 1) := by decide +kernel
theorem dX0_using_32 : decode cX0_using 32 = .ok (.iaload, 1) := by decide +kernel
theorem dX0_using_33 : decode cX0_using 33 = .ok (.iload_n 1, 1) := by decide +kernel
theorem dX0_using_34 : decode cX0_using 34 = .ok (.invokevirtual 59, 3) := by decide +kernel
theorem dX0_using_37 : decode cX0_using 37 = .ok (.ifCond .le 7, 3) := by decide +kernel
theorem dX0_using_40 : decode cX0_using 40 = .ok (.iconst 1, 1) := by decide +kernel
theorem dX0_using_41 : decode cX0_using 41 = .ok (.goto 4, 3) := by decide +kernel
theorem dX0_using_44 : decode cX0_using 44 = .ok (.iconst 0, 1) := by decide +kernel
theorem dX0_using_45 : decode cX0_using 45 = .ok (.iadd, 1) := by decide +kernel
theorem dX0_using_46 : decode cX0_using 46 = .ok (.istore_n 2, 1) := by decide +kernel
theorem dX0_using_47 : decode cX0_using 47 = .ok (.iinc 3 1, 3) := by decide +kernel
theorem dX0_using_50 : decode cX0_using 50 = .ok (.goto (-33), 3) := by decide +kernel
theorem dX0_using_53 : decode cX0_using 53 = .ok (.iload_n 2, 1) := by decide +kernel
theorem dX0_using_54 : decode cX0_using 54 = .ok (.ireturn, 1) := by decide +kernel
abbrev cX0_longest : ByteArray := prog_1_method_10_code
def yX0_longest : MethodName := ⟨RX0, "longest", "()I"⟩
theorem dX0_longest_0 : decode cX0_longest 0 = .ok (.aload_n 0, 1) := by decide +kernel
theorem dX0_longest_1 : decode cX0_longest 1 = .ok (.invokevirtual 49, 3) := by decide +kernel
theorem dX0_longest_4 : decode cX0_longest 4 = .ok (.iconst 0, 1) := by decide +kernel
theorem dX0_longest_5 : decode cX0_longest 5 = .ok (.istore_n 1, 1) := by decide +kernel
theorem dX0_longest_6 : decode cX0_longest 6 = .ok (.iconst 0, 1) := by decide +kernel
theorem dX0_longest_7 : decode cX0_longest 7 = .ok (.istore_n 2, 1) := by decide +kernel
theorem dX0_longest_8 : decode cX0_longest 8 = .ok (.iload_n 2, 1) := by decide +kernel
theorem dX0_longest_9 : decode cX0_longest 9 = .ok (.aload_n 0, 1) := by decide +kernel
theorem dX0_longest_10 : decode cX0_longest 10 = .ok (.getfield 55, 3) := by decide +kernel
theorem dX0_longest_13 : decode cX0_longest 13 = .ok (.if_icmp .ge 31, 3) := by decide +kernel
theorem dX0_longest_16 : decode cX0_longest 16 = .ok (.aload_n 0, 1) := by decide +kernel
theorem dX0_longest_17 : decode cX0_longest 17 = .ok (.aload_n 0, 1) := by decide +kernel
theorem dX0_longest_18 : decode cX0_longest 18 = .ok (.getfield 19, 3) := by decide +kernel
theorem dX0_longest_21 : decode cX0_longest 21 = .ok (.iload_n 2, 1) := by decide +kernel
theorem dX0_longest_22 : decode cX0_longest 22 = .ok (.iaload, 1) := by decide +kernel
theorem dX0_longest_23 : decode cX0_longest 23 = .ok (.invokevirtual 63, 3) := by decide +kernel
theorem dX0_longest_26 : decode cX0_longest 26 = .ok (.istore_n 3, 1) := by decide +kernel
theorem dX0_longest_27 : decode cX0_longest 27 = .ok (.iload_n 3, 1) := by decide +kernel
theorem dX0_longest_28 : decode cX0_longest 28 = .ok (.iload_n 1, 1) := by decide +kernel
theorem dX0_longest_29 : decode cX0_longest 29 = .ok (.if_icmp .le 7, 3) := by decide +kernel
theorem dX0_longest_32 : decode cX0_longest 32 = .ok (.iload_n 3, 1) := by decide +kernel
theorem dX0_longest_33 : decode cX0_longest 33 = .ok (.goto 4, 3) := by decide +kernel
theorem dX0_longest_36 : decode cX0_longest 36 = .ok (.iload_n 1, 1) := by decide +kernel
theorem dX0_longest_37 : decode cX0_longest 37 = .ok (.istore_n 1, 1) := by decide +kernel
theorem dX0_longest_38 : decode cX0_longest 38 = .ok (.iinc 2 1, 3) := by decide +kernel
theorem dX0_longest_41 : decode cX0_longest 41 = .ok (.goto (-33), 3) := by decide +kernel
theorem dX0_longest_44 : decode cX0_longest 44 = .ok (.iload_n 1, 1) := by decide +kernel
theorem dX0_longest_45 : decode cX0_longest 45 = .ok (.ireturn, 1) := by decide +kernel
abbrev cX0_sizeOf : ByteArray := prog_1_method_20_code
def yX0_sizeOf : MethodName := ⟨RX0, "sizeOf", "(I)I"⟩
theorem dX0_sizeOf_0 : decode cX0_sizeOf 0 = .ok (.iconst 0, 1) := by decide +kernel
theorem dX0_sizeOf_1 : decode cX0_sizeOf 1 = .ok (.istore_n 2, 1) := by decide +kernel
theorem dX0_sizeOf_2 : decode cX0_sizeOf 2 = .ok (.iconst 0, 1) := by decide +kernel
theorem dX0_sizeOf_3 : decode cX0_sizeOf 3 = .ok (.istore_n 3, 1) := by decide +kernel
theorem dX0_sizeOf_4 : decode cX0_sizeOf 4 = .ok (.iload_n 3, 1) := by decide +kernel
theorem dX0_sizeOf_5 : decode cX0_sizeOf 5 = .ok (.iconst 5, 1) := by decide +kernel
theorem dX0_sizeOf_6 : decode cX0_sizeOf 6 = .ok (.if_icmp .ge 18, 3) := by decide +kernel
theorem dX0_sizeOf_9 : decode cX0_sizeOf 9 = .ok (.iload_n 2, 1) := by decide +kernel
theorem dX0_sizeOf_10 : decode cX0_sizeOf 10 = .ok (.aload_n 0, 1) := by decide +kernel
theorem dX0_sizeOf_11 : decode cX0_sizeOf 11 = .ok (.iload_n 1, 1) := by decide +kernel
theorem dX0_sizeOf_12 : decode cX0_sizeOf 12 = .ok (.iload_n 3, 1) := by decide +kernel
theorem dX0_sizeOf_13 : decode cX0_sizeOf 13 = .ok (.invokevirtual 59, 3) := by decide +kernel
theorem dX0_sizeOf_16 : decode cX0_sizeOf 16 = .ok (.iadd, 1) := by decide +kernel
theorem dX0_sizeOf_17 : decode cX0_sizeOf 17 = .ok (.istore_n 2, 1) := by decide +kernel
theorem dX0_sizeOf_18 : decode cX0_sizeOf 18 = .ok (.iinc 3 1, 3) := by decide +kernel
theorem dX0_sizeOf_21 : decode cX0_sizeOf 21 = .ok (.goto (-17), 3) := by decide +kernel
theorem dX0_sizeOf_24 : decode cX0_sizeOf 24 = .ok (.iload_n 2, 1) := by decide +kernel
theorem dX0_sizeOf_25 : decode cX0_sizeOf 25 = .ok (.ireturn, 1) := by decide +kernel
abbrev cX0_balances : ByteArray := prog_1_method_11_code
def yX0_balances : MethodName := ⟨RX0, "balances", "(I)I"⟩
theorem dX0_balances_0 : decode cX0_balances 0 = .ok (.iload_n 1, 1) := by decide +kernel
theorem dX0_balances_1 : decode cX0_balances 1 = .ok (.ifCond .lt 9, 3) := by decide +kernel
theorem dX0_balances_4 : decode cX0_balances 4 = .ok (.iload_n 1, 1) := by decide +kernel
theorem dX0_balances_5 : decode cX0_balances 5 = .ok (.bipush 21, 2) := by decide +kernel
theorem dX0_balances_7 : decode cX0_balances 7 = .ok (.if_icmp .lt 5, 3) := by decide +kernel
theorem dX0_balances_10 : decode cX0_balances 10 = .ok (.iconst (-1), 1) := by decide +kernel
theorem dX0_balances_11 : decode cX0_balances 11 = .ok (.ireturn, 1) := by decide +kernel
theorem dX0_balances_12 : decode cX0_balances 12 = .ok (.iconst 0, 1) := by decide +kernel
theorem dX0_balances_13 : decode cX0_balances 13 = .ok (.istore_n 2, 1) := by decide +kernel
theorem dX0_balances_14 : decode cX0_balances 14 = .ok (.iload_n 2, 1) := by decide +kernel
theorem dX0_balances_15 : decode cX0_balances 15 = .ok (.sipush 5061, 3) := by decide +kernel
theorem dX0_balances_18 : decode cX0_balances 18 = .ok (.if_icmp .ge 16, 3) := by decide +kernel
theorem dX0_balances_21 : decode cX0_balances 21 = .ok (.aload_n 0, 1) := by decide +kernel
theorem dX0_balances_22 : decode cX0_balances 22 = .ok (.getfield 25, 3) := by decide +kernel
theorem dX0_balances_25 : decode cX0_balances 25 = .ok (.iload_n 2, 1) := by decide +kernel
theorem dX0_balances_26 : decode cX0_balances 26 = .ok (.iconst 0, 1) := by decide +kernel
theorem dX0_balances_27 : decode cX0_balances 27 = .ok (.iastore, 1) := by decide +kernel
theorem dX0_balances_28 : decode cX0_balances 28 = .ok (.iinc 2 1, 3) := by decide +kernel
theorem dX0_balances_31 : decode cX0_balances 31 = .ok (.goto (-17), 3) := by decide +kernel
theorem dX0_balances_34 : decode cX0_balances 34 = .ok (.aload_n 0, 1) := by decide +kernel
theorem dX0_balances_35 : decode cX0_balances 35 = .ok (.getfield 25, 3) := by decide +kernel
theorem dX0_balances_38 : decode cX0_balances 38 = .ok (.bipush 120, 2) := by decide +kernel
theorem dX0_balances_40 : decode cX0_balances 40 = .ok (.iconst 1, 1) := by decide +kernel
theorem dX0_balances_41 : decode cX0_balances 41 = .ok (.iastore, 1) := by decide +kernel
theorem dX0_balances_42 : decode cX0_balances 42 = .ok (.iconst 0, 1) := by decide +kernel
theorem dX0_balances_43 : decode cX0_balances 43 = .ok (.istore_n 2, 1) := by decide +kernel
theorem dX0_balances_44 : decode cX0_balances 44 = .ok (.iload_n 2, 1) := by decide +kernel
theorem dX0_balances_45 : decode cX0_balances 45 = .ok (.iconst 5, 1) := by decide +kernel
theorem dX0_balances_46 : decode cX0_balances 46 = .ok (.if_icmp .ge 29, 3) := by decide +kernel
theorem dX0_balances_49 : decode cX0_balances 49 = .ok (.iconst 1, 1) := by decide +kernel
theorem dX0_balances_50 : decode cX0_balances 50 = .ok (.istore_n 3, 1) := by decide +kernel
theorem dX0_balances_51 : decode cX0_balances 51 = .ok (.iload_n 3, 1) := by decide +kernel
theorem dX0_balances_52 : decode cX0_balances 52 = .ok (.bipush 21, 2) := by decide +kernel
theorem dX0_balances_54 : decode cX0_balances 54 = .ok (.if_icmp .ge 15, 3) := by decide +kernel
theorem dX0_balances_57 : decode cX0_balances 57 = .ok (.aload_n 0, 1) := by decide +kernel
theorem dX0_balances_58 : decode cX0_balances 58 = .ok (.iload_n 2, 1) := by decide +kernel
theorem dX0_balances_59 : decode cX0_balances 59 = .ok (.iload_n 3, 1) := by decide +kernel
theorem dX0_balances_60 : decode cX0_balances 60 = .ok (.invokevirtual 66, 3) := by decide +kernel
theorem dX0_balances_63 : decode cX0_balances 63 = .ok (.iinc 3 1, 3) := by decide +kernel
theorem dX0_balances_66 : decode cX0_balances 66 = .ok (.goto (-15), 3) := by decide +kernel
theorem dX0_balances_69 : decode cX0_balances 69 = .ok (.iinc 2 1, 3) := by decide +kernel
theorem dX0_balances_72 : decode cX0_balances 72 = .ok (.goto (-28), 3) := by decide +kernel
theorem dX0_balances_75 : decode cX0_balances 75 = .ok (.aload_n 0, 1) := by decide +kernel
theorem dX0_balances_76 : decode cX0_balances 76 = .ok (.getfield 25, 3) := by decide +kernel
theorem dX0_balances_79 : decode cX0_balances 79 = .ok (.sipush 241, 3) := by decide +kernel
theorem dX0_balances_82 : decode cX0_balances 82 = .ok (.iload_n 1, 1) := by decide +kernel
theorem dX0_balances_83 : decode cX0_balances 83 = .ok (.imul, 1) := by decide +kernel
theorem dX0_balances_84 : decode cX0_balances 84 = .ok (.bipush 120, 2) := by decide +kernel
theorem dX0_balances_86 : decode cX0_balances 86 = .ok (.iadd, 1) := by decide +kernel
theorem dX0_balances_87 : decode cX0_balances 87 = .ok (.iaload, 1) := by decide +kernel
theorem dX0_balances_88 : decode cX0_balances 88 = .ok (.ireturn, 1) := by decide +kernel
abbrev cX0_addUnit : ByteArray := prog_1_method_29_code
def yX0_addUnit : MethodName := ⟨RX0, "addUnit", "(II)V"⟩
theorem dX0_addUnit_0 : decode cX0_addUnit 0 = .ok (.bipush (-120), 2) := by decide +kernel
theorem dX0_addUnit_2 : decode cX0_addUnit 2 = .ok (.istore_n 3, 1) := by decide +kernel
theorem dX0_addUnit_3 : decode cX0_addUnit 3 = .ok (.iload_n 3, 1) := by decide +kernel
theorem dX0_addUnit_4 : decode cX0_addUnit 4 = .ok (.bipush 120, 2) := by decide +kernel
theorem dX0_addUnit_6 : decode cX0_addUnit 6 = .ok (.if_icmp .gt 69, 3) := by decide +kernel
theorem dX0_addUnit_9 : decode cX0_addUnit 9 = .ok (.iload_n 3, 1) := by decide +kernel
theorem dX0_addUnit_10 : decode cX0_addUnit 10 = .ok (.aload_n 0, 1) := by decide +kernel
theorem dX0_addUnit_11 : decode cX0_addUnit 11 = .ok (.getfield 7, 3) := by decide +kernel
theorem dX0_addUnit_14 : decode cX0_addUnit 14 = .ok (.iload_n 1, 1) := by decide +kernel
theorem dX0_addUnit_15 : decode cX0_addUnit 15 = .ok (.iaload, 1) := by decide +kernel
theorem dX0_addUnit_16 : decode cX0_addUnit 16 = .ok (.isub, 1) := by decide +kernel
theorem dX0_addUnit_17 : decode cX0_addUnit 17 = .ok (.istore 4, 2) := by decide +kernel
theorem dX0_addUnit_19 : decode cX0_addUnit 19 = .ok (.iload 4, 2) := by decide +kernel
theorem dX0_addUnit_21 : decode cX0_addUnit 21 = .ok (.bipush (-120), 2) := by decide +kernel
theorem dX0_addUnit_23 : decode cX0_addUnit 23 = .ok (.if_icmp .lt 46, 3) := by decide +kernel
theorem dX0_addUnit_26 : decode cX0_addUnit 26 = .ok (.iload 4, 2) := by decide +kernel
theorem dX0_addUnit_28 : decode cX0_addUnit 28 = .ok (.bipush 120, 2) := by decide +kernel
theorem dX0_addUnit_30 : decode cX0_addUnit 30 = .ok (.if_icmp .gt 39, 3) := by decide +kernel
theorem dX0_addUnit_33 : decode cX0_addUnit 33 = .ok (.aload_n 0, 1) := by decide +kernel
theorem dX0_addUnit_34 : decode cX0_addUnit 34 = .ok (.getfield 25, 3) := by decide +kernel
theorem dX0_addUnit_37 : decode cX0_addUnit 37 = .ok (.sipush 241, 3) := by decide +kernel
theorem dX0_addUnit_40 : decode cX0_addUnit 40 = .ok (.iload_n 2, 1) := by decide +kernel
theorem dX0_addUnit_41 : decode cX0_addUnit 41 = .ok (.imul, 1) := by decide +kernel
theorem dX0_addUnit_42 : decode cX0_addUnit 42 = .ok (.bipush 120, 2) := by decide +kernel
theorem dX0_addUnit_44 : decode cX0_addUnit 44 = .ok (.iadd, 1) := by decide +kernel
theorem dX0_addUnit_45 : decode cX0_addUnit 45 = .ok (.iload_n 3, 1) := by decide +kernel
theorem dX0_addUnit_46 : decode cX0_addUnit 46 = .ok (.iadd, 1) := by decide +kernel
theorem dX0_addUnit_47 : decode cX0_addUnit 47 = .ok (.dup2, 1) := by decide +kernel
theorem dX0_addUnit_48 : decode cX0_addUnit 48 = .ok (.iaload, 1) := by decide +kernel
theorem dX0_addUnit_49 : decode cX0_addUnit 49 = .ok (.aload_n 0, 1) := by decide +kernel
theorem dX0_addUnit_50 : decode cX0_addUnit 50 = .ok (.getfield 25, 3) := by decide +kernel
theorem dX0_addUnit_53 : decode cX0_addUnit 53 = .ok (.sipush 241, 3) := by decide +kernel
theorem dX0_addUnit_56 : decode cX0_addUnit 56 = .ok (.iload_n 2, 1) := by decide +kernel
theorem dX0_addUnit_57 : decode cX0_addUnit 57 = .ok (.iconst 1, 1) := by decide +kernel
theorem dX0_addUnit_58 : decode cX0_addUnit 58 = .ok (.isub, 1) := by decide +kernel
theorem dX0_addUnit_59 : decode cX0_addUnit 59 = .ok (.imul, 1) := by decide +kernel
theorem dX0_addUnit_60 : decode cX0_addUnit 60 = .ok (.bipush 120, 2) := by decide +kernel
theorem dX0_addUnit_62 : decode cX0_addUnit 62 = .ok (.iadd, 1) := by decide +kernel
theorem dX0_addUnit_63 : decode cX0_addUnit 63 = .ok (.iload 4, 2) := by decide +kernel
theorem dX0_addUnit_65 : decode cX0_addUnit 65 = .ok (.iadd, 1) := by decide +kernel
theorem dX0_addUnit_66 : decode cX0_addUnit 66 = .ok (.iaload, 1) := by decide +kernel
theorem dX0_addUnit_67 : decode cX0_addUnit 67 = .ok (.iadd, 1) := by decide +kernel
theorem dX0_addUnit_68 : decode cX0_addUnit 68 = .ok (.iastore, 1) := by decide +kernel
theorem dX0_addUnit_69 : decode cX0_addUnit 69 = .ok (.iinc 3 1, 3) := by decide +kernel
theorem dX0_addUnit_72 : decode cX0_addUnit 72 = .ok (.goto (-69), 3) := by decide +kernel
theorem dX0_addUnit_75 : decode cX0_addUnit 75 = .ok (.return_, 1) := by decide +kernel
abbrev cX0_fewest : ByteArray := prog_1_method_12_code
def yX0_fewest : MethodName := ⟨RX0, "fewest", "(I)I"⟩
theorem dX0_fewest_0 : decode cX0_fewest 0 = .ok (.iload_n 1, 1) := by decide +kernel
theorem dX0_fewest_1 : decode cX0_fewest 1 = .ok (.invokestatic 42, 3) := by decide +kernel
theorem dX0_fewest_4 : decode cX0_fewest 4 = .ok (.ifCond .ne 5, 3) := by decide +kernel
theorem dX0_fewest_7 : decode cX0_fewest 7 = .ok (.iconst (-1), 1) := by decide +kernel
theorem dX0_fewest_8 : decode cX0_fewest 8 = .ok (.ireturn, 1) := by decide +kernel
theorem dX0_fewest_9 : decode cX0_fewest 9 = .ok (.aload_n 0, 1) := by decide +kernel
theorem dX0_fewest_10 : decode cX0_fewest 10 = .ok (.iload_n 1, 1) := by decide +kernel
theorem dX0_fewest_11 : decode cX0_fewest 11 = .ok (.invokevirtual 45, 3) := by decide +kernel
theorem dX0_fewest_14 : decode cX0_fewest 14 = .ok (.ifCond .eq 6, 3) := by decide +kernel
theorem dX0_fewest_17 : decode cX0_fewest 17 = .ok (.bipush (-2), 2) := by decide +kernel
theorem dX0_fewest_19 : decode cX0_fewest 19 = .ok (.ireturn, 1) := by decide +kernel
theorem dX0_fewest_20 : decode cX0_fewest 20 = .ok (.aload_n 0, 1) := by decide +kernel
theorem dX0_fewest_21 : decode cX0_fewest 21 = .ok (.invokevirtual 49, 3) := by decide +kernel
theorem dX0_fewest_24 : decode cX0_fewest 24 = .ok (.aload_n 0, 1) := by decide +kernel
theorem dX0_fewest_25 : decode cX0_fewest 25 = .ok (.iload_n 1, 1) := by decide +kernel
theorem dX0_fewest_26 : decode cX0_fewest 26 = .ok (.iconst 1, 1) := by decide +kernel
theorem dX0_fewest_27 : decode cX0_fewest 27 = .ok (.invokevirtual 70, 3) := by decide +kernel
theorem dX0_fewest_30 : decode cX0_fewest 30 = .ok (.ireturn, 1) := by decide +kernel
abbrev cX0_take : ByteArray := prog_1_method_30_code
def yX0_take : MethodName := ⟨RX0, "take", "(IZ)I"⟩
theorem dX0_take_0 : decode cX0_take 0 = .ok (.iconst 0, 1) := by decide +kernel
theorem dX0_take_1 : decode cX0_take 1 = .ok (.istore_n 3, 1) := by decide +kernel
theorem dX0_take_2 : decode cX0_take 2 = .ok (.iconst 0, 1) := by decide +kernel
theorem dX0_take_3 : decode cX0_take 3 = .ok (.istore 4, 2) := by decide +kernel
theorem dX0_take_5 : decode cX0_take 5 = .ok (.bipush 31, 2) := by decide +kernel
theorem dX0_take_7 : decode cX0_take 7 = .ok (.istore 5, 2) := by decide +kernel
theorem dX0_take_9 : decode cX0_take 9 = .ok (.aload_n 0, 1) := by decide +kernel
theorem dX0_take_10 : decode cX0_take 10 = .ok (.getfield 31, 3) := by decide +kernel
theorem dX0_take_13 : decode cX0_take 13 = .ok (.iconst 0, 1) := by decide +kernel
theorem dX0_take_14 : decode cX0_take 14 = .ok (.iload_n 1, 1) := by decide +kernel
theorem dX0_take_15 : decode cX0_take 15 = .ok (.iastore, 1) := by decide +kernel
theorem dX0_take_16 : decode cX0_take 16 = .ok (.aload_n 0, 1) := by decide +kernel
theorem dX0_take_17 : decode cX0_take 17 = .ok (.getfield 28, 3) := by decide +kernel
theorem dX0_take_20 : decode cX0_take 20 = .ok (.iconst 0, 1) := by decide +kernel
theorem dX0_take_21 : decode cX0_take 21 = .ok (.iconst 0, 1) := by decide +kernel
theorem dX0_take_22 : decode cX0_take 22 = .ok (.iastore, 1) := by decide +kernel
theorem dX0_take_23 : decode cX0_take 23 = .ok (.iload_n 1, 1) := by decide +kernel
theorem dX0_take_24 : decode cX0_take 24 = .ok (.ifCond .ne 13, 3) := by decide +kernel
theorem dX0_take_27 : decode cX0_take 27 = .ok (.iload_n 2, 1) := by decide +kernel
theorem dX0_take_28 : decode cX0_take 28 = .ok (.ifCond .eq 7, 3) := by decide +kernel
theorem dX0_take_31 : decode cX0_take 31 = .ok (.iconst 0, 1) := by decide +kernel
theorem dX0_take_32 : decode cX0_take 32 = .ok (.goto 4, 3) := by decide +kernel
theorem dX0_take_35 : decode cX0_take 35 = .ok (.iconst 1, 1) := by decide +kernel
theorem dX0_take_36 : decode cX0_take 36 = .ok (.ireturn, 1) := by decide +kernel
theorem dX0_take_37 : decode cX0_take 37 = .ok (.iload_n 3, 1) := by decide +kernel
theorem dX0_take_38 : decode cX0_take 38 = .ok (.ifCond .lt 123, 3) := by decide +kernel
theorem dX0_take_41 : decode cX0_take 41 = .ok (.aload_n 0, 1) := by decide +kernel
theorem dX0_take_42 : decode cX0_take 42 = .ok (.getfield 28, 3) := by decide +kernel
theorem dX0_take_45 : decode cX0_take 45 = .ok (.iload_n 3, 1) := by decide +kernel
theorem dX0_take_46 : decode cX0_take 46 = .ok (.iaload, 1) := by decide +kernel
theorem dX0_take_47 : decode cX0_take 47 = .ok (.istore 6, 2) := by decide +kernel
theorem dX0_take_49 : decode cX0_take 49 = .ok (.iload 6, 2) := by decide +kernel
theorem dX0_take_51 : decode cX0_take 51 = .ok (.aload_n 0, 1) := by decide +kernel
theorem dX0_take_52 : decode cX0_take 52 = .ok (.getfield 55, 3) := by decide +kernel
theorem dX0_take_55 : decode cX0_take 55 = .ok (.if_icmp .ne 9, 3) := by decide +kernel
theorem dX0_take_58 : decode cX0_take 58 = .ok (.iinc 3 (-1), 3) := by decide +kernel
theorem dX0_take_61 : decode cX0_take 61 = .ok (.goto 97, 3) := by decide +kernel
theorem dX0_take_64 : decode cX0_take 64 = .ok (.aload_n 0, 1) := by decide +kernel
theorem dX0_take_65 : decode cX0_take 65 = .ok (.getfield 28, 3) := by decide +kernel
theorem dX0_take_68 : decode cX0_take 68 = .ok (.iload_n 3, 1) := by decide +kernel
theorem dX0_take_69 : decode cX0_take 69 = .ok (.dup2, 1) := by decide +kernel
theorem dX0_take_70 : decode cX0_take 70 = .ok (.iaload, 1) := by decide +kernel
theorem dX0_take_71 : decode cX0_take 71 = .ok (.iconst 1, 1) := by decide +kernel
theorem dX0_take_72 : decode cX0_take 72 = .ok (.iadd, 1) := by decide +kernel
theorem dX0_take_73 : decode cX0_take 73 = .ok (.iastore, 1) := by decide +kernel
theorem dX0_take_74 : decode cX0_take 74 = .ok (.aload_n 0, 1) := by decide +kernel
theorem dX0_take_75 : decode cX0_take 75 = .ok (.aload_n 0, 1) := by decide +kernel
theorem dX0_take_76 : decode cX0_take 76 = .ok (.getfield 19, 3) := by decide +kernel
theorem dX0_take_79 : decode cX0_take 79 = .ok (.iload 6, 2) := by decide +kernel
theorem dX0_take_81 : decode cX0_take 81 = .ok (.iaload, 1) := by decide +kernel
theorem dX0_take_82 : decode cX0_take 82 = .ok (.aload_n 0, 1) := by decide +kernel
theorem dX0_take_83 : decode cX0_take 83 = .ok (.getfield 31, 3) := by decide +kernel
theorem dX0_take_86 : decode cX0_take 86 = .ok (.iload_n 3, 1) := by decide +kernel
theorem dX0_take_87 : decode cX0_take 87 = .ok (.iaload, 1) := by decide +kernel
theorem dX0_take_88 : decode cX0_take 88 = .ok (.invokevirtual 74, 3) := by decide +kernel
theorem dX0_take_91 : decode cX0_take 91 = .ok (.ifCond .eq 67, 3) := by decide +kernel
theorem dX0_take_94 : decode cX0_take 94 = .ok (.aload_n 0, 1) := by decide +kernel
theorem dX0_take_95 : decode cX0_take 95 = .ok (.getfield 31, 3) := by decide +kernel
theorem dX0_take_98 : decode cX0_take 98 = .ok (.iload_n 3, 1) := by decide +kernel
theorem dX0_take_99 : decode cX0_take 99 = .ok (.iaload, 1) := by decide +kernel
theorem dX0_take_100 : decode cX0_take 100 = .ok (.aload_n 0, 1) := by decide +kernel
theorem dX0_take_101 : decode cX0_take 101 = .ok (.getfield 19, 3) := by decide +kernel
theorem dX0_take_104 : decode cX0_take 104 = .ok (.iload 6, 2) := by decide +kernel
theorem dX0_take_106 : decode cX0_take 106 = .ok (.iaload, 1) := by decide +kernel
theorem dX0_take_107 : decode cX0_take 107 = .ok (.isub, 1) := by decide +kernel
theorem dX0_take_108 : decode cX0_take 108 = .ok (.istore 7, 2) := by decide +kernel
theorem dX0_take_110 : decode cX0_take 110 = .ok (.iload 7, 2) := by decide +kernel
theorem dX0_take_112 : decode cX0_take 112 = .ok (.ifCond .ne 27, 3) := by decide +kernel
theorem dX0_take_115 : decode cX0_take 115 = .ok (.iinc 4 1, 3) := by decide +kernel
theorem dX0_take_118 : decode cX0_take 118 = .ok (.iload_n 3, 1) := by decide +kernel
theorem dX0_take_119 : decode cX0_take 119 = .ok (.iconst 1, 1) := by decide +kernel
theorem dX0_take_120 : decode cX0_take 120 = .ok (.iadd, 1) := by decide +kernel
theorem dX0_take_121 : decode cX0_take 121 = .ok (.iload 5, 2) := by decide +kernel
theorem dX0_take_123 : decode cX0_take 123 = .ok (.if_icmp .ge 9, 3) := by decide +kernel
theorem dX0_take_126 : decode cX0_take 126 = .ok (.iload_n 3, 1) := by decide +kernel
theorem dX0_take_127 : decode cX0_take 127 = .ok (.iconst 1, 1) := by decide +kernel
theorem dX0_take_128 : decode cX0_take 128 = .ok (.iadd, 1) := by decide +kernel
theorem dX0_take_129 : decode cX0_take 129 = .ok (.goto 5, 3) := by decide +kernel
theorem dX0_take_132 : decode cX0_take 132 = .ok (.iload 5, 2) := by decide +kernel
theorem dX0_take_134 : decode cX0_take 134 = .ok (.istore 5, 2) := by decide +kernel
theorem dX0_take_136 : decode cX0_take 136 = .ok (.goto 22, 3) := by decide +kernel
theorem dX0_take_139 : decode cX0_take 139 = .ok (.iinc 3 1, 3) := by decide +kernel
theorem dX0_take_142 : decode cX0_take 142 = .ok (.aload_n 0, 1) := by decide +kernel
theorem dX0_take_143 : decode cX0_take 143 = .ok (.getfield 31, 3) := by decide +kernel
theorem dX0_take_146 : decode cX0_take 146 = .ok (.iload_n 3, 1) := by decide +kernel
theorem dX0_take_147 : decode cX0_take 147 = .ok (.iload 7, 2) := by decide +kernel
theorem dX0_take_149 : decode cX0_take 149 = .ok (.iastore, 1) := by decide +kernel
theorem dX0_take_150 : decode cX0_take 150 = .ok (.aload_n 0, 1) := by decide +kernel
theorem dX0_take_151 : decode cX0_take 151 = .ok (.getfield 28, 3) := by decide +kernel
theorem dX0_take_154 : decode cX0_take 154 = .ok (.iload_n 3, 1) := by decide +kernel
theorem dX0_take_155 : decode cX0_take 155 = .ok (.iload 6, 2) := by decide +kernel
theorem dX0_take_157 : decode cX0_take 157 = .ok (.iastore, 1) := by decide +kernel
theorem dX0_take_158 : decode cX0_take 158 = .ok (.goto (-121), 3) := by decide +kernel
theorem dX0_take_161 : decode cX0_take 161 = .ok (.iload_n 2, 1) := by decide +kernel
theorem dX0_take_162 : decode cX0_take 162 = .ok (.ifCond .eq 8, 3) := by decide +kernel
theorem dX0_take_165 : decode cX0_take 165 = .ok (.iload 5, 2) := by decide +kernel
theorem dX0_take_167 : decode cX0_take 167 = .ok (.goto 5, 3) := by decide +kernel
theorem dX0_take_170 : decode cX0_take 170 = .ok (.iload 4, 2) := by decide +kernel
theorem dX0_take_172 : decode cX0_take 172 = .ok (.ireturn, 1) := by decide +kernel
abbrev cX0_ways : ByteArray := prog_1_method_13_code
def yX0_ways : MethodName := ⟨RX0, "ways", "(I)I"⟩
theorem dX0_ways_0 : decode cX0_ways 0 = .ok (.iload_n 1, 1) := by decide +kernel
theorem dX0_ways_1 : decode cX0_ways 1 = .ok (.invokestatic 42, 3) := by decide +kernel
theorem dX0_ways_4 : decode cX0_ways 4 = .ok (.ifCond .ne 5, 3) := by decide +kernel
theorem dX0_ways_7 : decode cX0_ways 7 = .ok (.iconst (-1), 1) := by decide +kernel
theorem dX0_ways_8 : decode cX0_ways 8 = .ok (.ireturn, 1) := by decide +kernel
theorem dX0_ways_9 : decode cX0_ways 9 = .ok (.aload_n 0, 1) := by decide +kernel
theorem dX0_ways_10 : decode cX0_ways 10 = .ok (.iload_n 1, 1) := by decide +kernel
theorem dX0_ways_11 : decode cX0_ways 11 = .ok (.invokevirtual 45, 3) := by decide +kernel
theorem dX0_ways_14 : decode cX0_ways 14 = .ok (.ifCond .eq 6, 3) := by decide +kernel
theorem dX0_ways_17 : decode cX0_ways 17 = .ok (.bipush (-2), 2) := by decide +kernel
theorem dX0_ways_19 : decode cX0_ways 19 = .ok (.ireturn, 1) := by decide +kernel
theorem dX0_ways_20 : decode cX0_ways 20 = .ok (.aload_n 0, 1) := by decide +kernel
theorem dX0_ways_21 : decode cX0_ways 21 = .ok (.invokevirtual 49, 3) := by decide +kernel
theorem dX0_ways_24 : decode cX0_ways 24 = .ok (.aload_n 0, 1) := by decide +kernel
theorem dX0_ways_25 : decode cX0_ways 25 = .ok (.iload_n 1, 1) := by decide +kernel
theorem dX0_ways_26 : decode cX0_ways 26 = .ok (.iconst 0, 1) := by decide +kernel
theorem dX0_ways_27 : decode cX0_ways 27 = .ok (.invokevirtual 70, 3) := by decide +kernel
theorem dX0_ways_30 : decode cX0_ways 30 = .ok (.ireturn, 1) := by decide +kernel
abbrev cX0_inside : ByteArray := prog_1_method_14_code
def yX0_inside : MethodName := ⟨RX0, "inside", "(I)I"⟩
theorem dX0_inside_0 : decode cX0_inside 0 = .ok (.iload_n 1, 1) := by decide +kernel
theorem dX0_inside_1 : decode cX0_inside 1 = .ok (.invokestatic 42, 3) := by decide +kernel
theorem dX0_inside_4 : decode cX0_inside 4 = .ok (.ifCond .ne 5, 3) := by decide +kernel
theorem dX0_inside_7 : decode cX0_inside 7 = .ok (.iconst (-1), 1) := by decide +kernel
theorem dX0_inside_8 : decode cX0_inside 8 = .ok (.ireturn, 1) := by decide +kernel
theorem dX0_inside_9 : decode cX0_inside 9 = .ok (.aload_n 0, 1) := by decide +kernel
theorem dX0_inside_10 : decode cX0_inside 10 = .ok (.invokevirtual 49, 3) := by decide +kernel
theorem dX0_inside_13 : decode cX0_inside 13 = .ok (.iconst 0, 1) := by decide +kernel
theorem dX0_inside_14 : decode cX0_inside 14 = .ok (.istore_n 2, 1) := by decide +kernel
theorem dX0_inside_15 : decode cX0_inside 15 = .ok (.iload_n 2, 1) := by decide +kernel
theorem dX0_inside_16 : decode cX0_inside 16 = .ok (.aload_n 0, 1) := by decide +kernel
theorem dX0_inside_17 : decode cX0_inside 17 = .ok (.getfield 55, 3) := by decide +kernel
theorem dX0_inside_20 : decode cX0_inside 20 = .ok (.if_icmp .ge 30, 3) := by decide +kernel
theorem dX0_inside_23 : decode cX0_inside 23 = .ok (.aload_n 0, 1) := by decide +kernel
theorem dX0_inside_24 : decode cX0_inside 24 = .ok (.aload_n 0, 1) := by decide +kernel
theorem dX0_inside_25 : decode cX0_inside 25 = .ok (.getfield 19, 3) := by decide +kernel
theorem dX0_inside_28 : decode cX0_inside 28 = .ok (.iload_n 2, 1) := by decide +kernel
theorem dX0_inside_29 : decode cX0_inside 29 = .ok (.iaload, 1) := by decide +kernel
theorem dX0_inside_30 : decode cX0_inside 30 = .ok (.iload_n 1, 1) := by decide +kernel
theorem dX0_inside_31 : decode cX0_inside 31 = .ok (.invokevirtual 74, 3) := by decide +kernel
theorem dX0_inside_34 : decode cX0_inside 34 = .ok (.ifCond .eq 10, 3) := by decide +kernel
theorem dX0_inside_37 : decode cX0_inside 37 = .ok (.aload_n 0, 1) := by decide +kernel
theorem dX0_inside_38 : decode cX0_inside 38 = .ok (.getfield 19, 3) := by decide +kernel
theorem dX0_inside_41 : decode cX0_inside 41 = .ok (.iload_n 2, 1) := by decide +kernel
theorem dX0_inside_42 : decode cX0_inside 42 = .ok (.iaload, 1) := by decide +kernel
theorem dX0_inside_43 : decode cX0_inside 43 = .ok (.ireturn, 1) := by decide +kernel
theorem dX0_inside_44 : decode cX0_inside 44 = .ok (.iinc 2 1, 3) := by decide +kernel
theorem dX0_inside_47 : decode cX0_inside 47 = .ok (.goto (-32), 3) := by decide +kernel
theorem dX0_inside_50 : decode cX0_inside 50 = .ok (.bipush (-2), 2) := by decide +kernel
theorem dX0_inside_52 : decode cX0_inside 52 = .ok (.ireturn, 1) := by decide +kernel
abbrev cX0_small : ByteArray := prog_1_method_15_code
def yX0_small : MethodName := ⟨RX0, "small", "()I"⟩
theorem dX0_small_0 : decode cX0_small 0 = .ok (.iconst 0, 1) := by decide +kernel
theorem dX0_small_1 : decode cX0_small 1 = .ok (.istore_n 1, 1) := by decide +kernel
theorem dX0_small_2 : decode cX0_small 2 = .ok (.iconst 0, 1) := by decide +kernel
theorem dX0_small_3 : decode cX0_small 3 = .ok (.istore_n 2, 1) := by decide +kernel
theorem dX0_small_4 : decode cX0_small 4 = .ok (.iload_n 2, 1) := by decide +kernel
theorem dX0_small_5 : decode cX0_small 5 = .ok (.sipush 16807, 3) := by decide +kernel
theorem dX0_small_8 : decode cX0_small 8 = .ok (.if_icmp .ge 25, 3) := by decide +kernel
theorem dX0_small_11 : decode cX0_small 11 = .ok (.iload_n 1, 1) := by decide +kernel
theorem dX0_small_12 : decode cX0_small 12 = .ok (.aload_n 0, 1) := by decide +kernel
theorem dX0_small_13 : decode cX0_small 13 = .ok (.iload_n 2, 1) := by decide +kernel
theorem dX0_small_14 : decode cX0_small 14 = .ok (.invokevirtual 45, 3) := by decide +kernel
theorem dX0_small_17 : decode cX0_small 17 = .ok (.ifCond .ne 7, 3) := by decide +kernel
theorem dX0_small_20 : decode cX0_small 20 = .ok (.iconst 1, 1) := by decide +kernel
theorem dX0_small_21 : decode cX0_small 21 = .ok (.goto 4, 3) := by decide +kernel
theorem dX0_small_24 : decode cX0_small 24 = .ok (.iconst 0, 1) := by decide +kernel
theorem dX0_small_25 : decode cX0_small 25 = .ok (.iadd, 1) := by decide +kernel
theorem dX0_small_26 : decode cX0_small 26 = .ok (.istore_n 1, 1) := by decide +kernel
theorem dX0_small_27 : decode cX0_small 27 = .ok (.iinc 2 1, 3) := by decide +kernel
theorem dX0_small_30 : decode cX0_small 30 = .ok (.goto (-26), 3) := by decide +kernel
theorem dX0_small_33 : decode cX0_small 33 = .ok (.iload_n 1, 1) := by decide +kernel
theorem dX0_small_34 : decode cX0_small 34 = .ok (.ireturn, 1) := by decide +kernel
theorem q25 : (Jvm.Cond.initialized "HilbertBasis") ∈ lw_all := lw_g (lw_at lw_m1 1 rfl) rfl
theorem q28 : (Jvm.Cond.instantiable "HilbertBasis" (10 : Nat)) ∈ lw_all := lw_g (lw_at lw_m1 4 rfl) rfl
theorem q30 : (Jvm.Cond.instanceMethod ({ cls := "HilbertBasis", name := "<init>", desc := "()V" } : Jvm.MethodName)) ∈ lw_all := lw_g (lw_at lw_m1 6 rfl) rfl
theorem q31 : (Jvm.Cond.code ({ cls := "HilbertBasis", name := "<init>", desc := "()V" } : Jvm.MethodName) prog_1_method_1_code (2 : Nat) (Option.none : Option Jvm.ClassFile.FieldType)) ∈ lw_all := lw_g (lw_at lw_m1 7 rfl) rfl
theorem q32 : (Jvm.Cond.methodLink "HilbertBasis" (1 : Nat) ({ cls := "java/lang/Object", name := "<init>", desc := "()V" } : Jvm.MethodName)) ∈ lw_all := lw_g (lw_at lw_m1 8 rfl) rfl
theorem q35 : (Jvm.Cond.fieldLink "HilbertBasis" (7 : Nat) "HilbertBasis" "weights" "[I") ∈ lw_all := lw_g (lw_at lw_m1 11 rfl) rfl
theorem q36 : (Jvm.Cond.fieldLink "HilbertBasis" (13 : Nat) "HilbertBasis" "now" "[I") ∈ lw_all := lw_g (lw_at lw_m1 12 rfl) rfl
theorem q37 : (Jvm.Cond.fieldLink "HilbertBasis" (16 : Nat) "HilbertBasis" "next" "[I") ∈ lw_all := lw_g (lw_at lw_m1 13 rfl) rfl
theorem q38 : (Jvm.Cond.fieldLink "HilbertBasis" (19 : Nat) "HilbertBasis" "list" "[I") ∈ lw_all := lw_g (lw_at lw_m1 14 rfl) rfl
theorem q39 : (Jvm.Cond.fieldLink "HilbertBasis" (22 : Nat) "HilbertBasis" "powers" "[I") ∈ lw_all := lw_g (lw_at lw_m1 15 rfl) rfl
theorem q40 : (Jvm.Cond.fieldLink "HilbertBasis" (25 : Nat) "HilbertBasis" "table" "[I") ∈ lw_all := lw_g (lw_at lw_m1 16 rfl) rfl
theorem q41 : (Jvm.Cond.fieldLink "HilbertBasis" (28 : Nat) "HilbertBasis" "picked" "[I") ∈ lw_all := lw_g (lw_at lw_m1 17 rfl) rfl
theorem q42 : (Jvm.Cond.fieldLink "HilbertBasis" (31 : Nat) "HilbertBasis" "rest" "[I") ∈ lw_all := lw_g (lw_at lw_m1 18 rfl) rfl
theorem q43 : (Jvm.Cond.fieldLink "HilbertBasis" (55 : Nat) "HilbertBasis" "count" "I") ∈ lw_all := lw_g (lw_at lw_m1 19 rfl) rfl
theorem q44 : (Jvm.Cond.fieldLink "HilbertBasis" (38 : Nat) "HilbertBasis" "current" "Z") ∈ lw_all := lw_g (lw_at lw_m1 20 rfl) rfl
theorem q45 : (Jvm.Cond.laysFinal "HilbertBasis" "HilbertBasis" "weights" "[I") ∈ lw_all := lw_g (lw_at lw_m1 21 rfl) rfl
theorem q46 : (Jvm.Cond.soleField "HilbertBasis" "weights") ∈ lw_all := lw_g (lw_at lw_m1 22 rfl) rfl
theorem q47 : (Jvm.Cond.laysFinal "HilbertBasis" "HilbertBasis" "now" "[I") ∈ lw_all := lw_g (lw_at lw_m1 23 rfl) rfl
theorem q48 : (Jvm.Cond.soleField "HilbertBasis" "now") ∈ lw_all := lw_g (lw_at lw_m1 24 rfl) rfl
theorem q49 : (Jvm.Cond.laysFinal "HilbertBasis" "HilbertBasis" "next" "[I") ∈ lw_all := lw_g (lw_at lw_m1 25 rfl) rfl
theorem q50 : (Jvm.Cond.soleField "HilbertBasis" "next") ∈ lw_all := lw_g (lw_at lw_m1 26 rfl) rfl
theorem q51 : (Jvm.Cond.laysFinal "HilbertBasis" "HilbertBasis" "list" "[I") ∈ lw_all := lw_g (lw_at lw_m1 27 rfl) rfl
theorem q52 : (Jvm.Cond.soleField "HilbertBasis" "list") ∈ lw_all := lw_g (lw_at lw_m1 28 rfl) rfl
theorem q53 : (Jvm.Cond.laysFinal "HilbertBasis" "HilbertBasis" "powers" "[I") ∈ lw_all := lw_g (lw_at lw_m1 29 rfl) rfl
theorem q54 : (Jvm.Cond.soleField "HilbertBasis" "powers") ∈ lw_all := lw_g (lw_at lw_m1 30 rfl) rfl
theorem q55 : (Jvm.Cond.laysFinal "HilbertBasis" "HilbertBasis" "table" "[I") ∈ lw_all := lw_g (lw_at lw_m1 31 rfl) rfl
theorem q56 : (Jvm.Cond.soleField "HilbertBasis" "table") ∈ lw_all := lw_g (lw_at lw_m1 32 rfl) rfl
theorem q57 : (Jvm.Cond.laysFinal "HilbertBasis" "HilbertBasis" "picked" "[I") ∈ lw_all := lw_g (lw_at lw_m1 33 rfl) rfl
theorem q58 : (Jvm.Cond.soleField "HilbertBasis" "picked") ∈ lw_all := lw_g (lw_at lw_m1 34 rfl) rfl
theorem q59 : (Jvm.Cond.laysFinal "HilbertBasis" "HilbertBasis" "rest" "[I") ∈ lw_all := lw_g (lw_at lw_m1 35 rfl) rfl
theorem q60 : (Jvm.Cond.soleField "HilbertBasis" "rest") ∈ lw_all := lw_g (lw_at lw_m1 36 rfl) rfl
theorem q61 : (Jvm.Cond.lays "HilbertBasis" "HilbertBasis" "count" "I") ∈ lw_all := lw_g (lw_at lw_m1 37 rfl) rfl
theorem q62 : (Jvm.Cond.soleField "HilbertBasis" "count") ∈ lw_all := lw_g (lw_at lw_m1 38 rfl) rfl
theorem q63 : (Jvm.Cond.lays "HilbertBasis" "HilbertBasis" "current" "Z") ∈ lw_all := lw_g (lw_at lw_m1 39 rfl) rfl
theorem q64 : (Jvm.Cond.soleField "HilbertBasis" "current") ∈ lw_all := lw_g (lw_at lw_m1 40 rfl) rfl
theorem q65 : (Jvm.Cond.superclass "HilbertBasis" "java/lang/Object") ∈ lw_all := lw_g (lw_at lw_m1 41 rfl) rfl
theorem q68 : (Jvm.Cond.instanceMethod ({ cls := "HilbertBasis", name := "set", desc := "(II)I" } : Jvm.MethodName)) ∈ lw_all := lw_g (lw_at lw_m1 44 rfl) rfl
theorem q69 : (Jvm.Cond.selects "HilbertBasis" ({ cls := "HilbertBasis", name := "set", desc := "(II)I" } : Jvm.MethodName) ({ cls := "HilbertBasis", name := "set", desc := "(II)I" } : Jvm.MethodName)) ∈ lw_all := lw_g (lw_at lw_m1 45 rfl) rfl
theorem q70 : (Jvm.Cond.code ({ cls := "HilbertBasis", name := "set", desc := "(II)I" } : Jvm.MethodName) prog_1_method_2_code (4 : Nat) (Option.some Jvm.ClassFile.FieldType.int)) ∈ lw_all := lw_g (lw_at lw_m1 46 rfl) rfl
theorem q71 : (Jvm.Cond.methodLink "HilbertBasis" (34 : Nat) ({ cls := "HilbertBasis", name := "isIndex", desc := "(I)Z" } : Jvm.MethodName)) ∈ lw_all := lw_g (lw_at lw_m1 47 rfl) rfl
theorem q72 : (Jvm.Cond.static ({ cls := "HilbertBasis", name := "isIndex", desc := "(I)Z" } : Jvm.MethodName)) ∈ lw_all := lw_g (lw_at lw_m1 48 rfl) rfl
theorem q73 : (Jvm.Cond.code ({ cls := "HilbertBasis", name := "isIndex", desc := "(I)Z" } : Jvm.MethodName) prog_1_method_16_code (1 : Nat) (Option.some Jvm.ClassFile.FieldType.boolean)) ∈ lw_all := lw_g (lw_at lw_m1 49 rfl) rfl
theorem q75 : (Jvm.Cond.instanceMethod ({ cls := "HilbertBasis", name := "sow", desc := "(II)I" } : Jvm.MethodName)) ∈ lw_all := lw_g (lw_at lw_m1 51 rfl) rfl
theorem q76 : (Jvm.Cond.selects "HilbertBasis" ({ cls := "HilbertBasis", name := "sow", desc := "(II)I" } : Jvm.MethodName) ({ cls := "HilbertBasis", name := "sow", desc := "(II)I" } : Jvm.MethodName)) ∈ lw_all := lw_g (lw_at lw_m1 52 rfl) rfl
theorem q77 : (Jvm.Cond.code ({ cls := "HilbertBasis", name := "sow", desc := "(II)I" } : Jvm.MethodName) prog_1_method_3_code (5 : Nat) (Option.some Jvm.ClassFile.FieldType.int)) ∈ lw_all := lw_g (lw_at lw_m1 53 rfl) rfl
theorem q79 : (Jvm.Cond.instanceMethod ({ cls := "HilbertBasis", name := "weight", desc := "(I)I" } : Jvm.MethodName)) ∈ lw_all := lw_g (lw_at lw_m1 55 rfl) rfl
theorem q80 : (Jvm.Cond.selects "HilbertBasis" ({ cls := "HilbertBasis", name := "weight", desc := "(I)I" } : Jvm.MethodName) ({ cls := "HilbertBasis", name := "weight", desc := "(I)I" } : Jvm.MethodName)) ∈ lw_all := lw_g (lw_at lw_m1 56 rfl) rfl
theorem q81 : (Jvm.Cond.code ({ cls := "HilbertBasis", name := "weight", desc := "(I)I" } : Jvm.MethodName) prog_1_method_4_code (2 : Nat) (Option.some Jvm.ClassFile.FieldType.int)) ∈ lw_all := lw_g (lw_at lw_m1 57 rfl) rfl
theorem q83 : (Jvm.Cond.instanceMethod ({ cls := "HilbertBasis", name := "isBalance", desc := "(I)I" } : Jvm.MethodName)) ∈ lw_all := lw_g (lw_at lw_m1 59 rfl) rfl
theorem q84 : (Jvm.Cond.selects "HilbertBasis" ({ cls := "HilbertBasis", name := "isBalance", desc := "(I)I" } : Jvm.MethodName) ({ cls := "HilbertBasis", name := "isBalance", desc := "(I)I" } : Jvm.MethodName)) ∈ lw_all := lw_g (lw_at lw_m1 60 rfl) rfl
theorem q85 : (Jvm.Cond.code ({ cls := "HilbertBasis", name := "isBalance", desc := "(I)I" } : Jvm.MethodName) prog_1_method_5_code (2 : Nat) (Option.some Jvm.ClassFile.FieldType.int)) ∈ lw_all := lw_g (lw_at lw_m1 61 rfl) rfl
theorem q86 : (Jvm.Cond.methodLink "HilbertBasis" (42 : Nat) ({ cls := "HilbertBasis", name := "isCode", desc := "(I)Z" } : Jvm.MethodName)) ∈ lw_all := lw_g (lw_at lw_m1 62 rfl) rfl
theorem q87 : (Jvm.Cond.static ({ cls := "HilbertBasis", name := "isCode", desc := "(I)Z" } : Jvm.MethodName)) ∈ lw_all := lw_g (lw_at lw_m1 63 rfl) rfl
theorem q88 : (Jvm.Cond.code ({ cls := "HilbertBasis", name := "isCode", desc := "(I)Z" } : Jvm.MethodName) prog_1_method_17_code (1 : Nat) (Option.some Jvm.ClassFile.FieldType.boolean)) ∈ lw_all := lw_g (lw_at lw_m1 64 rfl) rfl
theorem q89 : (Jvm.Cond.methodLink "HilbertBasis" (45 : Nat) ({ cls := "HilbertBasis", name := "sumOf", desc := "(I)I" } : Jvm.MethodName)) ∈ lw_all := lw_g (lw_at lw_m1 65 rfl) rfl
theorem q90 : (Jvm.Cond.privateMethod ({ cls := "HilbertBasis", name := "sumOf", desc := "(I)I" } : Jvm.MethodName)) ∈ lw_tbl := lw_at lw_m1 66 rfl
theorem q91 : (Jvm.Cond.instanceMethod ({ cls := "HilbertBasis", name := "sumOf", desc := "(I)I" } : Jvm.MethodName)) ∈ lw_all := lw_g (lw_at lw_m1 67 rfl) rfl
theorem q92 : (Jvm.Cond.code ({ cls := "HilbertBasis", name := "sumOf", desc := "(I)I" } : Jvm.MethodName) prog_1_method_19_code (4 : Nat) (Option.some Jvm.ClassFile.FieldType.int)) ∈ lw_all := lw_g (lw_at lw_m1 68 rfl) rfl
theorem q93 : (Jvm.Cond.methodLink "HilbertBasis" (59 : Nat) ({ cls := "HilbertBasis", name := "digit", desc := "(II)I" } : Jvm.MethodName)) ∈ lw_all := lw_g (lw_at lw_m1 69 rfl) rfl
theorem q94 : (Jvm.Cond.privateMethod ({ cls := "HilbertBasis", name := "digit", desc := "(II)I" } : Jvm.MethodName)) ∈ lw_tbl := lw_at lw_m1 70 rfl
theorem q95 : (Jvm.Cond.instanceMethod ({ cls := "HilbertBasis", name := "digit", desc := "(II)I" } : Jvm.MethodName)) ∈ lw_all := lw_g (lw_at lw_m1 71 rfl) rfl
theorem q96 : (Jvm.Cond.code ({ cls := "HilbertBasis", name := "digit", desc := "(II)I" } : Jvm.MethodName) prog_1_method_18_code (4 : Nat) (Option.some Jvm.ClassFile.FieldType.int)) ∈ lw_all := lw_g (lw_at lw_m1 72 rfl) rfl
theorem q98 : (Jvm.Cond.instanceMethod ({ cls := "HilbertBasis", name := "isLeast", desc := "(I)I" } : Jvm.MethodName)) ∈ lw_all := lw_g (lw_at lw_m1 74 rfl) rfl
theorem q99 : (Jvm.Cond.selects "HilbertBasis" ({ cls := "HilbertBasis", name := "isLeast", desc := "(I)I" } : Jvm.MethodName) ({ cls := "HilbertBasis", name := "isLeast", desc := "(I)I" } : Jvm.MethodName)) ∈ lw_all := lw_g (lw_at lw_m1 75 rfl) rfl
theorem q100 : (Jvm.Cond.code ({ cls := "HilbertBasis", name := "isLeast", desc := "(I)I" } : Jvm.MethodName) prog_1_method_6_code (2 : Nat) (Option.some Jvm.ClassFile.FieldType.int)) ∈ lw_all := lw_g (lw_at lw_m1 76 rfl) rfl
theorem q101 : (Jvm.Cond.methodLink "HilbertBasis" (49 : Nat) ({ cls := "HilbertBasis", name := "refresh", desc := "()V" } : Jvm.MethodName)) ∈ lw_all := lw_g (lw_at lw_m1 77 rfl) rfl
theorem q102 : (Jvm.Cond.privateMethod ({ cls := "HilbertBasis", name := "refresh", desc := "()V" } : Jvm.MethodName)) ∈ lw_tbl := lw_at lw_m1 78 rfl
theorem q103 : (Jvm.Cond.instanceMethod ({ cls := "HilbertBasis", name := "refresh", desc := "()V" } : Jvm.MethodName)) ∈ lw_all := lw_g (lw_at lw_m1 79 rfl) rfl
theorem q104 : (Jvm.Cond.code ({ cls := "HilbertBasis", name := "refresh", desc := "()V" } : Jvm.MethodName) prog_1_method_24_code (3 : Nat) (Option.none : Option Jvm.ClassFile.FieldType)) ∈ lw_all := lw_g (lw_at lw_m1 80 rfl) rfl
theorem q105 : (Jvm.Cond.methodLink "HilbertBasis" (78 : Nat) ({ cls := "HilbertBasis", name := "gather", desc := "()V" } : Jvm.MethodName)) ∈ lw_all := lw_g (lw_at lw_m1 81 rfl) rfl
theorem q106 : (Jvm.Cond.privateMethod ({ cls := "HilbertBasis", name := "gather", desc := "()V" } : Jvm.MethodName)) ∈ lw_tbl := lw_at lw_m1 82 rfl
theorem q107 : (Jvm.Cond.instanceMethod ({ cls := "HilbertBasis", name := "gather", desc := "()V" } : Jvm.MethodName)) ∈ lw_all := lw_g (lw_at lw_m1 83 rfl) rfl
theorem q108 : (Jvm.Cond.code ({ cls := "HilbertBasis", name := "gather", desc := "()V" } : Jvm.MethodName) prog_1_method_25_code (4 : Nat) (Option.none : Option Jvm.ClassFile.FieldType)) ∈ lw_all := lw_g (lw_at lw_m1 84 rfl) rfl
theorem q109 : (Jvm.Cond.methodLink "HilbertBasis" (87 : Nat) ({ cls := "HilbertBasis", name := "hasPart", desc := "(I)Z" } : Jvm.MethodName)) ∈ lw_all := lw_g (lw_at lw_m1 85 rfl) rfl
theorem q110 : (Jvm.Cond.privateMethod ({ cls := "HilbertBasis", name := "hasPart", desc := "(I)Z" } : Jvm.MethodName)) ∈ lw_tbl := lw_at lw_m1 86 rfl
theorem q111 : (Jvm.Cond.instanceMethod ({ cls := "HilbertBasis", name := "hasPart", desc := "(I)Z" } : Jvm.MethodName)) ∈ lw_all := lw_g (lw_at lw_m1 87 rfl) rfl
theorem q112 : (Jvm.Cond.code ({ cls := "HilbertBasis", name := "hasPart", desc := "(I)Z" } : Jvm.MethodName) prog_1_method_22_code (3 : Nat) (Option.some Jvm.ClassFile.FieldType.boolean)) ∈ lw_all := lw_g (lw_at lw_m1 88 rfl) rfl
theorem q113 : (Jvm.Cond.methodLink "HilbertBasis" (74 : Nat) ({ cls := "HilbertBasis", name := "isPart", desc := "(II)Z" } : Jvm.MethodName)) ∈ lw_all := lw_g (lw_at lw_m1 89 rfl) rfl
theorem q114 : (Jvm.Cond.privateMethod ({ cls := "HilbertBasis", name := "isPart", desc := "(II)Z" } : Jvm.MethodName)) ∈ lw_tbl := lw_at lw_m1 90 rfl
theorem q115 : (Jvm.Cond.instanceMethod ({ cls := "HilbertBasis", name := "isPart", desc := "(II)Z" } : Jvm.MethodName)) ∈ lw_all := lw_g (lw_at lw_m1 91 rfl) rfl
theorem q116 : (Jvm.Cond.code ({ cls := "HilbertBasis", name := "isPart", desc := "(II)Z" } : Jvm.MethodName) prog_1_method_21_code (4 : Nat) (Option.some Jvm.ClassFile.FieldType.boolean)) ∈ lw_all := lw_g (lw_at lw_m1 92 rfl) rfl
theorem q117 : (Jvm.Cond.methodLink "HilbertBasis" (81 : Nat) ({ cls := "HilbertBasis", name := "grow", desc := "()V" } : Jvm.MethodName)) ∈ lw_all := lw_g (lw_at lw_m1 93 rfl) rfl
theorem q118 : (Jvm.Cond.privateMethod ({ cls := "HilbertBasis", name := "grow", desc := "()V" } : Jvm.MethodName)) ∈ lw_tbl := lw_at lw_m1 94 rfl
theorem q119 : (Jvm.Cond.instanceMethod ({ cls := "HilbertBasis", name := "grow", desc := "()V" } : Jvm.MethodName)) ∈ lw_all := lw_g (lw_at lw_m1 95 rfl) rfl
theorem q120 : (Jvm.Cond.code ({ cls := "HilbertBasis", name := "grow", desc := "()V" } : Jvm.MethodName) prog_1_method_26_code (2 : Nat) (Option.none : Option Jvm.ClassFile.FieldType)) ∈ lw_all := lw_g (lw_at lw_m1 96 rfl) rfl
theorem q121 : (Jvm.Cond.methodLink "HilbertBasis" (90 : Nat) ({ cls := "HilbertBasis", name := "growRow", desc := "(I)V" } : Jvm.MethodName)) ∈ lw_all := lw_g (lw_at lw_m1 97 rfl) rfl
theorem q122 : (Jvm.Cond.privateMethod ({ cls := "HilbertBasis", name := "growRow", desc := "(I)V" } : Jvm.MethodName)) ∈ lw_tbl := lw_at lw_m1 98 rfl
theorem q123 : (Jvm.Cond.instanceMethod ({ cls := "HilbertBasis", name := "growRow", desc := "(I)V" } : Jvm.MethodName)) ∈ lw_all := lw_g (lw_at lw_m1 99 rfl) rfl
theorem q124 : (Jvm.Cond.code ({ cls := "HilbertBasis", name := "growRow", desc := "(I)V" } : Jvm.MethodName) prog_1_method_27_code (6 : Nat) (Option.none : Option Jvm.ClassFile.FieldType)) ∈ lw_all := lw_g (lw_at lw_m1 100 rfl) rfl
theorem q125 : (Jvm.Cond.methodLink "HilbertBasis" (84 : Nat) ({ cls := "HilbertBasis", name := "sortList", desc := "()V" } : Jvm.MethodName)) ∈ lw_all := lw_g (lw_at lw_m1 101 rfl) rfl
theorem q126 : (Jvm.Cond.privateMethod ({ cls := "HilbertBasis", name := "sortList", desc := "()V" } : Jvm.MethodName)) ∈ lw_tbl := lw_at lw_m1 102 rfl
theorem q127 : (Jvm.Cond.instanceMethod ({ cls := "HilbertBasis", name := "sortList", desc := "()V" } : Jvm.MethodName)) ∈ lw_all := lw_g (lw_at lw_m1 103 rfl) rfl
theorem q128 : (Jvm.Cond.code ({ cls := "HilbertBasis", name := "sortList", desc := "()V" } : Jvm.MethodName) prog_1_method_28_code (4 : Nat) (Option.none : Option Jvm.ClassFile.FieldType)) ∈ lw_all := lw_g (lw_at lw_m1 104 rfl) rfl
theorem q129 : (Jvm.Cond.methodLink "HilbertBasis" (52 : Nat) ({ cls := "HilbertBasis", name := "place", desc := "(I)I" } : Jvm.MethodName)) ∈ lw_all := lw_g (lw_at lw_m1 105 rfl) rfl
theorem q130 : (Jvm.Cond.privateMethod ({ cls := "HilbertBasis", name := "place", desc := "(I)I" } : Jvm.MethodName)) ∈ lw_tbl := lw_at lw_m1 106 rfl
theorem q131 : (Jvm.Cond.instanceMethod ({ cls := "HilbertBasis", name := "place", desc := "(I)I" } : Jvm.MethodName)) ∈ lw_all := lw_g (lw_at lw_m1 107 rfl) rfl
theorem q132 : (Jvm.Cond.code ({ cls := "HilbertBasis", name := "place", desc := "(I)I" } : Jvm.MethodName) prog_1_method_23_code (3 : Nat) (Option.some Jvm.ClassFile.FieldType.int)) ∈ lw_all := lw_g (lw_at lw_m1 108 rfl) rfl
theorem q134 : (Jvm.Cond.instanceMethod ({ cls := "HilbertBasis", name := "least", desc := "()I" } : Jvm.MethodName)) ∈ lw_all := lw_g (lw_at lw_m1 110 rfl) rfl
theorem q135 : (Jvm.Cond.selects "HilbertBasis" ({ cls := "HilbertBasis", name := "least", desc := "()I" } : Jvm.MethodName) ({ cls := "HilbertBasis", name := "least", desc := "()I" } : Jvm.MethodName)) ∈ lw_all := lw_g (lw_at lw_m1 111 rfl) rfl
theorem q136 : (Jvm.Cond.code ({ cls := "HilbertBasis", name := "least", desc := "()I" } : Jvm.MethodName) prog_1_method_7_code (1 : Nat) (Option.some Jvm.ClassFile.FieldType.int)) ∈ lw_all := lw_g (lw_at lw_m1 112 rfl) rfl
theorem q138 : (Jvm.Cond.instanceMethod ({ cls := "HilbertBasis", name := "code", desc := "(I)I" } : Jvm.MethodName)) ∈ lw_all := lw_g (lw_at lw_m1 114 rfl) rfl
theorem q139 : (Jvm.Cond.selects "HilbertBasis" ({ cls := "HilbertBasis", name := "code", desc := "(I)I" } : Jvm.MethodName) ({ cls := "HilbertBasis", name := "code", desc := "(I)I" } : Jvm.MethodName)) ∈ lw_all := lw_g (lw_at lw_m1 115 rfl) rfl
theorem q140 : (Jvm.Cond.code ({ cls := "HilbertBasis", name := "code", desc := "(I)I" } : Jvm.MethodName) prog_1_method_8_code (2 : Nat) (Option.some Jvm.ClassFile.FieldType.int)) ∈ lw_all := lw_g (lw_at lw_m1 116 rfl) rfl
theorem q142 : (Jvm.Cond.instanceMethod ({ cls := "HilbertBasis", name := "using", desc := "(I)I" } : Jvm.MethodName)) ∈ lw_all := lw_g (lw_at lw_m1 118 rfl) rfl
theorem q143 : (Jvm.Cond.selects "HilbertBasis" ({ cls := "HilbertBasis", name := "using", desc := "(I)I" } : Jvm.MethodName) ({ cls := "HilbertBasis", name := "using", desc := "(I)I" } : Jvm.MethodName)) ∈ lw_all := lw_g (lw_at lw_m1 119 rfl) rfl
theorem q144 : (Jvm.Cond.code ({ cls := "HilbertBasis", name := "using", desc := "(I)I" } : Jvm.MethodName) prog_1_method_9_code (4 : Nat) (Option.some Jvm.ClassFile.FieldType.int)) ∈ lw_all := lw_g (lw_at lw_m1 120 rfl) rfl
theorem q146 : (Jvm.Cond.instanceMethod ({ cls := "HilbertBasis", name := "longest", desc := "()I" } : Jvm.MethodName)) ∈ lw_all := lw_g (lw_at lw_m1 122 rfl) rfl
theorem q147 : (Jvm.Cond.selects "HilbertBasis" ({ cls := "HilbertBasis", name := "longest", desc := "()I" } : Jvm.MethodName) ({ cls := "HilbertBasis", name := "longest", desc := "()I" } : Jvm.MethodName)) ∈ lw_all := lw_g (lw_at lw_m1 123 rfl) rfl
theorem q148 : (Jvm.Cond.code ({ cls := "HilbertBasis", name := "longest", desc := "()I" } : Jvm.MethodName) prog_1_method_10_code (4 : Nat) (Option.some Jvm.ClassFile.FieldType.int)) ∈ lw_all := lw_g (lw_at lw_m1 124 rfl) rfl
theorem q149 : (Jvm.Cond.methodLink "HilbertBasis" (63 : Nat) ({ cls := "HilbertBasis", name := "sizeOf", desc := "(I)I" } : Jvm.MethodName)) ∈ lw_all := lw_g (lw_at lw_m1 125 rfl) rfl
theorem q150 : (Jvm.Cond.privateMethod ({ cls := "HilbertBasis", name := "sizeOf", desc := "(I)I" } : Jvm.MethodName)) ∈ lw_tbl := lw_at lw_m1 126 rfl
theorem q151 : (Jvm.Cond.instanceMethod ({ cls := "HilbertBasis", name := "sizeOf", desc := "(I)I" } : Jvm.MethodName)) ∈ lw_all := lw_g (lw_at lw_m1 127 rfl) rfl
theorem q152 : (Jvm.Cond.code ({ cls := "HilbertBasis", name := "sizeOf", desc := "(I)I" } : Jvm.MethodName) prog_1_method_20_code (4 : Nat) (Option.some Jvm.ClassFile.FieldType.int)) ∈ lw_all := lw_g (lw_at lw_m1 128 rfl) rfl
theorem q154 : (Jvm.Cond.instanceMethod ({ cls := "HilbertBasis", name := "balances", desc := "(I)I" } : Jvm.MethodName)) ∈ lw_all := lw_g (lw_at lw_m1 130 rfl) rfl
theorem q155 : (Jvm.Cond.selects "HilbertBasis" ({ cls := "HilbertBasis", name := "balances", desc := "(I)I" } : Jvm.MethodName) ({ cls := "HilbertBasis", name := "balances", desc := "(I)I" } : Jvm.MethodName)) ∈ lw_all := lw_g (lw_at lw_m1 131 rfl) rfl
theorem q156 : (Jvm.Cond.code ({ cls := "HilbertBasis", name := "balances", desc := "(I)I" } : Jvm.MethodName) prog_1_method_11_code (4 : Nat) (Option.some Jvm.ClassFile.FieldType.int)) ∈ lw_all := lw_g (lw_at lw_m1 132 rfl) rfl
theorem q157 : (Jvm.Cond.methodLink "HilbertBasis" (66 : Nat) ({ cls := "HilbertBasis", name := "addUnit", desc := "(II)V" } : Jvm.MethodName)) ∈ lw_all := lw_g (lw_at lw_m1 133 rfl) rfl
theorem q158 : (Jvm.Cond.privateMethod ({ cls := "HilbertBasis", name := "addUnit", desc := "(II)V" } : Jvm.MethodName)) ∈ lw_tbl := lw_at lw_m1 134 rfl
theorem q159 : (Jvm.Cond.instanceMethod ({ cls := "HilbertBasis", name := "addUnit", desc := "(II)V" } : Jvm.MethodName)) ∈ lw_all := lw_g (lw_at lw_m1 135 rfl) rfl
theorem q160 : (Jvm.Cond.code ({ cls := "HilbertBasis", name := "addUnit", desc := "(II)V" } : Jvm.MethodName) prog_1_method_29_code (5 : Nat) (Option.none : Option Jvm.ClassFile.FieldType)) ∈ lw_all := lw_g (lw_at lw_m1 136 rfl) rfl
theorem q162 : (Jvm.Cond.instanceMethod ({ cls := "HilbertBasis", name := "fewest", desc := "(I)I" } : Jvm.MethodName)) ∈ lw_all := lw_g (lw_at lw_m1 138 rfl) rfl
theorem q163 : (Jvm.Cond.selects "HilbertBasis" ({ cls := "HilbertBasis", name := "fewest", desc := "(I)I" } : Jvm.MethodName) ({ cls := "HilbertBasis", name := "fewest", desc := "(I)I" } : Jvm.MethodName)) ∈ lw_all := lw_g (lw_at lw_m1 139 rfl) rfl
theorem q164 : (Jvm.Cond.code ({ cls := "HilbertBasis", name := "fewest", desc := "(I)I" } : Jvm.MethodName) prog_1_method_12_code (2 : Nat) (Option.some Jvm.ClassFile.FieldType.int)) ∈ lw_all := lw_g (lw_at lw_m1 140 rfl) rfl
theorem q165 : (Jvm.Cond.methodLink "HilbertBasis" (70 : Nat) ({ cls := "HilbertBasis", name := "take", desc := "(IZ)I" } : Jvm.MethodName)) ∈ lw_all := lw_g (lw_at lw_m1 141 rfl) rfl
theorem q166 : (Jvm.Cond.privateMethod ({ cls := "HilbertBasis", name := "take", desc := "(IZ)I" } : Jvm.MethodName)) ∈ lw_tbl := lw_at lw_m1 142 rfl
theorem q167 : (Jvm.Cond.instanceMethod ({ cls := "HilbertBasis", name := "take", desc := "(IZ)I" } : Jvm.MethodName)) ∈ lw_all := lw_g (lw_at lw_m1 143 rfl) rfl
theorem q168 : (Jvm.Cond.code ({ cls := "HilbertBasis", name := "take", desc := "(IZ)I" } : Jvm.MethodName) prog_1_method_30_code (8 : Nat) (Option.some Jvm.ClassFile.FieldType.int)) ∈ lw_all := lw_g (lw_at lw_m1 144 rfl) rfl
theorem q170 : (Jvm.Cond.instanceMethod ({ cls := "HilbertBasis", name := "ways", desc := "(I)I" } : Jvm.MethodName)) ∈ lw_all := lw_g (lw_at lw_m1 146 rfl) rfl
theorem q171 : (Jvm.Cond.selects "HilbertBasis" ({ cls := "HilbertBasis", name := "ways", desc := "(I)I" } : Jvm.MethodName) ({ cls := "HilbertBasis", name := "ways", desc := "(I)I" } : Jvm.MethodName)) ∈ lw_all := lw_g (lw_at lw_m1 147 rfl) rfl
theorem q172 : (Jvm.Cond.code ({ cls := "HilbertBasis", name := "ways", desc := "(I)I" } : Jvm.MethodName) prog_1_method_13_code (2 : Nat) (Option.some Jvm.ClassFile.FieldType.int)) ∈ lw_all := lw_g (lw_at lw_m1 148 rfl) rfl
theorem q174 : (Jvm.Cond.instanceMethod ({ cls := "HilbertBasis", name := "inside", desc := "(I)I" } : Jvm.MethodName)) ∈ lw_all := lw_g (lw_at lw_m1 150 rfl) rfl
theorem q175 : (Jvm.Cond.selects "HilbertBasis" ({ cls := "HilbertBasis", name := "inside", desc := "(I)I" } : Jvm.MethodName) ({ cls := "HilbertBasis", name := "inside", desc := "(I)I" } : Jvm.MethodName)) ∈ lw_all := lw_g (lw_at lw_m1 151 rfl) rfl
theorem q176 : (Jvm.Cond.code ({ cls := "HilbertBasis", name := "inside", desc := "(I)I" } : Jvm.MethodName) prog_1_method_14_code (3 : Nat) (Option.some Jvm.ClassFile.FieldType.int)) ∈ lw_all := lw_g (lw_at lw_m1 152 rfl) rfl
theorem q178 : (Jvm.Cond.instanceMethod ({ cls := "HilbertBasis", name := "small", desc := "()I" } : Jvm.MethodName)) ∈ lw_all := lw_g (lw_at lw_m1 154 rfl) rfl
theorem q179 : (Jvm.Cond.selects "HilbertBasis" ({ cls := "HilbertBasis", name := "small", desc := "()I" } : Jvm.MethodName) ({ cls := "HilbertBasis", name := "small", desc := "()I" } : Jvm.MethodName)) ∈ lw_all := lw_g (lw_at lw_m1 155 rfl) rfl
theorem q180 : (Jvm.Cond.code ({ cls := "HilbertBasis", name := "small", desc := "()I" } : Jvm.MethodName) prog_1_method_15_code (3 : Nat) (Option.some Jvm.ClassFile.FieldType.int)) ∈ lw_all := lw_g (lw_at lw_m1 156 rfl) rfl
theorem in_X0 : ∀ w ∈ wsX00, w ∈ lw_all := lw_in wsX00 [45, 47, 49, 51, 53, 55, 57, 59, 61, 63] (by decide +kernel) (by decide +kernel)
end
section
/-! HilbertBasisModel -/
set_option maxRecDepth 100000
def RX1 : String := "HilbertBasisModel"
def TX1 : u_T := fun k => match k with
  | 0 => ("HilbertBasisModel", "weights", "[I", false)
  | 1 => ("HilbertBasisModel", "ready", "Z", false)
  | 2 => ("HilbertBasisModel", "count", "I", false)
  | 3 => ("HilbertBasisModel", "balances", "I", false)
  | 4 => ("HilbertBasisModel", "codes", "[I", false)
  | 5 => ("HilbertBasisModel", "many", "[I", false)
  | _ => ("HilbertBasisModel", "few", "[I", false)
def tyX1 : Nat → FieldType := fun k => match k with
  | 0 => .array .int
  | 1 => .boolean
  | 2 => .int
  | 3 => .int
  | 4 => .array .int
  | 5 => .array .int
  | _ => .array .int
abbrev wsX10 : List Cond := u_ws RX1 TX1 7
theorem nmX1 : ∀ a, a < 7 → ∀ b, b < 7 → a ≠ b → (TX1 a).2.1 ≠ (TX1 b).2.1 := by decide +kernel
theorem tyX1_ok : ∀ k, k < 7 → parseFieldDescriptor (TX1 k).2.2.1 = some (tyX1 k) := by decide +kernel
abbrev cX1_init : ByteArray := prog_3_method_1_code
def yX1_init : MethodName := ⟨RX1, "<init>", "()V"⟩
theorem dX1_init_0 : decode cX1_init 0 = .ok (.aload_n 0, 1) := by decide +kernel
theorem dX1_init_1 : decode cX1_init 1 = .ok (.invokespecial 1, 3) := by decide +kernel
theorem dX1_init_4 : decode cX1_init 4 = .ok (.aload_n 0, 1) := by decide +kernel
theorem dX1_init_5 : decode cX1_init 5 = .ok (.iconst 5, 1) := by decide +kernel
theorem dX1_init_6 : decode cX1_init 6 = .ok (.newarray .int, 2) := by decide +kernel
theorem dX1_init_8 : decode cX1_init 8 = .ok (.putfield 7, 3) := by decide +kernel
theorem dX1_init_11 : decode cX1_init 11 = .ok (.aload_n 0, 1) := by decide +kernel
theorem dX1_init_12 : decode cX1_init 12 = .ok (.sipush 2000, 3) := by decide +kernel
theorem dX1_init_15 : decode cX1_init 15 = .ok (.newarray .int, 2) := by decide +kernel
theorem dX1_init_17 : decode cX1_init 17 = .ok (.putfield 13, 3) := by decide +kernel
theorem dX1_init_20 : decode cX1_init 20 = .ok (.aload_n 0, 1) := by decide +kernel
theorem dX1_init_21 : decode cX1_init 21 = .ok (.sipush 16807, 3) := by decide +kernel
theorem dX1_init_24 : decode cX1_init 24 = .ok (.newarray .int, 2) := by decide +kernel
theorem dX1_init_26 : decode cX1_init 26 = .ok (.putfield 16, 3) := by decide +kernel
theorem dX1_init_29 : decode cX1_init 29 = .ok (.aload_n 0, 1) := by decide +kernel
theorem dX1_init_30 : decode cX1_init 30 = .ok (.sipush 16807, 3) := by decide +kernel
theorem dX1_init_33 : decode cX1_init 33 = .ok (.newarray .int, 2) := by decide +kernel
theorem dX1_init_35 : decode cX1_init 35 = .ok (.putfield 19, 3) := by decide +kernel
theorem dX1_init_38 : decode cX1_init 38 = .ok (.return_, 1) := by decide +kernel
abbrev cX1_set : ByteArray := prog_3_method_4_code
def yX1_set : MethodName := ⟨RX1, "set", "(II)I"⟩
theorem dX1_set_0 : decode cX1_set 0 = .ok (.iload_n 1, 1) := by decide +kernel
theorem dX1_set_1 : decode cX1_set 1 = .ok (.ifCond .lt 8, 3) := by decide +kernel
theorem dX1_set_4 : decode cX1_set 4 = .ok (.iload_n 1, 1) := by decide +kernel
theorem dX1_set_5 : decode cX1_set 5 = .ok (.iconst 4, 1) := by decide +kernel
theorem dX1_set_6 : decode cX1_set 6 = .ok (.if_icmp .le 5, 3) := by decide +kernel
theorem dX1_set_9 : decode cX1_set 9 = .ok (.iconst (-1), 1) := by decide +kernel
theorem dX1_set_10 : decode cX1_set 10 = .ok (.ireturn, 1) := by decide +kernel
theorem dX1_set_11 : decode cX1_set 11 = .ok (.iload_n 2, 1) := by decide +kernel
theorem dX1_set_12 : decode cX1_set 12 = .ok (.bipush (-6), 2) := by decide +kernel
theorem dX1_set_14 : decode cX1_set 14 = .ok (.if_icmp .lt 9, 3) := by decide +kernel
theorem dX1_set_17 : decode cX1_set 17 = .ok (.iload_n 2, 1) := by decide +kernel
theorem dX1_set_18 : decode cX1_set 18 = .ok (.bipush 6, 2) := by decide +kernel
theorem dX1_set_20 : decode cX1_set 20 = .ok (.if_icmp .le 6, 3) := by decide +kernel
theorem dX1_set_23 : decode cX1_set 23 = .ok (.bipush (-2), 2) := by decide +kernel
theorem dX1_set_25 : decode cX1_set 25 = .ok (.ireturn, 1) := by decide +kernel
theorem dX1_set_26 : decode cX1_set 26 = .ok (.aload_n 0, 1) := by decide +kernel
theorem dX1_set_27 : decode cX1_set 27 = .ok (.getfield 7, 3) := by decide +kernel
theorem dX1_set_30 : decode cX1_set 30 = .ok (.iload_n 1, 1) := by decide +kernel
theorem dX1_set_31 : decode cX1_set 31 = .ok (.iaload, 1) := by decide +kernel
theorem dX1_set_32 : decode cX1_set 32 = .ok (.istore_n 3, 1) := by decide +kernel
theorem dX1_set_33 : decode cX1_set 33 = .ok (.aload_n 0, 1) := by decide +kernel
theorem dX1_set_34 : decode cX1_set 34 = .ok (.getfield 7, 3) := by decide +kernel
theorem dX1_set_37 : decode cX1_set 37 = .ok (.iload_n 1, 1) := by decide +kernel
theorem dX1_set_38 : decode cX1_set 38 = .ok (.iload_n 2, 1) := by decide +kernel
theorem dX1_set_39 : decode cX1_set 39 = .ok (.iastore, 1) := by decide +kernel
theorem dX1_set_40 : decode cX1_set 40 = .ok (.aload_n 0, 1) := by decide +kernel
theorem dX1_set_41 : decode cX1_set 41 = .ok (.iconst 0, 1) := by decide +kernel
theorem dX1_set_42 : decode cX1_set 42 = .ok (.putfield 22, 3) := by decide +kernel
theorem dX1_set_45 : decode cX1_set 45 = .ok (.iload_n 3, 1) := by decide +kernel
theorem dX1_set_46 : decode cX1_set 46 = .ok (.ireturn, 1) := by decide +kernel
abbrev cX1_sow : ByteArray := prog_3_method_5_code
def yX1_sow : MethodName := ⟨RX1, "sow", "(II)I"⟩
theorem dX1_sow_0 : decode cX1_sow 0 = .ok (.iload_n 1, 1) := by decide +kernel
theorem dX1_sow_1 : decode cX1_sow 1 = .ok (.ifCond .lt 9, 3) := by decide +kernel
theorem dX1_sow_4 : decode cX1_sow 4 = .ok (.iload_n 1, 1) := by decide +kernel
theorem dX1_sow_5 : decode cX1_sow 5 = .ok (.bipush 12, 2) := by decide +kernel
theorem dX1_sow_7 : decode cX1_sow 7 = .ok (.if_icmp .le 5, 3) := by decide +kernel
theorem dX1_sow_10 : decode cX1_sow 10 = .ok (.iconst (-1), 1) := by decide +kernel
theorem dX1_sow_11 : decode cX1_sow 11 = .ok (.ireturn, 1) := by decide +kernel
theorem dX1_sow_12 : decode cX1_sow 12 = .ok (.iload_n 2, 1) := by decide +kernel
theorem dX1_sow_13 : decode cX1_sow 13 = .ok (.ifCond .lt 9, 3) := by decide +kernel
theorem dX1_sow_16 : decode cX1_sow 16 = .ok (.iload_n 2, 1) := by decide +kernel
theorem dX1_sow_17 : decode cX1_sow 17 = .ok (.bipush 12, 2) := by decide +kernel
theorem dX1_sow_19 : decode cX1_sow 19 = .ok (.if_icmp .le 6, 3) := by decide +kernel
theorem dX1_sow_22 : decode cX1_sow 22 = .ok (.bipush (-2), 2) := by decide +kernel
theorem dX1_sow_24 : decode cX1_sow 24 = .ok (.ireturn, 1) := by decide +kernel
theorem dX1_sow_25 : decode cX1_sow 25 = .ok (.iconst 0, 1) := by decide +kernel
theorem dX1_sow_26 : decode cX1_sow 26 = .ok (.istore_n 3, 1) := by decide +kernel
theorem dX1_sow_27 : decode cX1_sow 27 = .ok (.iconst 0, 1) := by decide +kernel
theorem dX1_sow_28 : decode cX1_sow 28 = .ok (.istore 4, 2) := by decide +kernel
theorem dX1_sow_30 : decode cX1_sow 30 = .ok (.iload 4, 2) := by decide +kernel
theorem dX1_sow_32 : decode cX1_sow 32 = .ok (.iconst 5, 1) := by decide +kernel
theorem dX1_sow_33 : decode cX1_sow 33 = .ok (.if_icmp .ge 46, 3) := by decide +kernel
theorem dX1_sow_36 : decode cX1_sow 36 = .ok (.aload_n 0, 1) := by decide +kernel
theorem dX1_sow_37 : decode cX1_sow 37 = .ok (.getfield 7, 3) := by decide +kernel
theorem dX1_sow_40 : decode cX1_sow 40 = .ok (.iload 4, 2) := by decide +kernel
theorem dX1_sow_42 : decode cX1_sow 42 = .ok (.iload_n 1, 1) := by decide +kernel
theorem dX1_sow_43 : decode cX1_sow 43 = .ok (.iconst 5, 1) := by decide +kernel
theorem dX1_sow_44 : decode cX1_sow 44 = .ok (.iload 4, 2) := by decide +kernel
theorem dX1_sow_46 : decode cX1_sow 46 = .ok (.imul, 1) := by decide +kernel
theorem dX1_sow_47 : decode cX1_sow 47 = .ok (.iadd, 1) := by decide +kernel
theorem dX1_sow_48 : decode cX1_sow 48 = .ok (.iload_n 2, 1) := by decide +kernel
theorem dX1_sow_49 : decode cX1_sow 49 = .ok (.iload 4, 2) := by decide +kernel
theorem dX1_sow_51 : decode cX1_sow 51 = .ok (.imul, 1) := by decide +kernel
theorem dX1_sow_52 : decode cX1_sow 52 = .ok (.iload 4, 2) := by decide +kernel
theorem dX1_sow_54 : decode cX1_sow 54 = .ok (.imul, 1) := by decide +kernel
theorem dX1_sow_55 : decode cX1_sow 55 = .ok (.iadd, 1) := by decide +kernel
theorem dX1_sow_56 : decode cX1_sow 56 = .ok (.bipush 13, 2) := by decide +kernel
theorem dX1_sow_58 : decode cX1_sow 58 = .ok (.irem, 1) := by decide +kernel
theorem dX1_sow_59 : decode cX1_sow 59 = .ok (.bipush 6, 2) := by decide +kernel
theorem dX1_sow_61 : decode cX1_sow 61 = .ok (.isub, 1) := by decide +kernel
theorem dX1_sow_62 : decode cX1_sow 62 = .ok (.iastore, 1) := by decide +kernel
theorem dX1_sow_63 : decode cX1_sow 63 = .ok (.iload_n 3, 1) := by decide +kernel
theorem dX1_sow_64 : decode cX1_sow 64 = .ok (.aload_n 0, 1) := by decide +kernel
theorem dX1_sow_65 : decode cX1_sow 65 = .ok (.getfield 7, 3) := by decide +kernel
theorem dX1_sow_68 : decode cX1_sow 68 = .ok (.iload 4, 2) := by decide +kernel
theorem dX1_sow_70 : decode cX1_sow 70 = .ok (.iaload, 1) := by decide +kernel
theorem dX1_sow_71 : decode cX1_sow 71 = .ok (.iadd, 1) := by decide +kernel
theorem dX1_sow_72 : decode cX1_sow 72 = .ok (.istore_n 3, 1) := by decide +kernel
theorem dX1_sow_73 : decode cX1_sow 73 = .ok (.iinc 4 1, 3) := by decide +kernel
theorem dX1_sow_76 : decode cX1_sow 76 = .ok (.goto (-46), 3) := by decide +kernel
theorem dX1_sow_79 : decode cX1_sow 79 = .ok (.aload_n 0, 1) := by decide +kernel
theorem dX1_sow_80 : decode cX1_sow 80 = .ok (.iconst 0, 1) := by decide +kernel
theorem dX1_sow_81 : decode cX1_sow 81 = .ok (.putfield 22, 3) := by decide +kernel
theorem dX1_sow_84 : decode cX1_sow 84 = .ok (.iload_n 3, 1) := by decide +kernel
theorem dX1_sow_85 : decode cX1_sow 85 = .ok (.ireturn, 1) := by decide +kernel
abbrev cX1_weight : ByteArray := prog_3_method_6_code
def yX1_weight : MethodName := ⟨RX1, "weight", "(I)I"⟩
theorem dX1_weight_0 : decode cX1_weight 0 = .ok (.iload_n 1, 1) := by decide +kernel
theorem dX1_weight_1 : decode cX1_weight 1 = .ok (.ifCond .lt 8, 3) := by decide +kernel
theorem dX1_weight_4 : decode cX1_weight 4 = .ok (.iload_n 1, 1) := by decide +kernel
theorem dX1_weight_5 : decode cX1_weight 5 = .ok (.iconst 4, 1) := by decide +kernel
theorem dX1_weight_6 : decode cX1_weight 6 = .ok (.if_icmp .le 8, 3) := by decide +kernel
theorem dX1_weight_9 : decode cX1_weight 9 = .ok (.bipush (-100), 2) := by decide +kernel
theorem dX1_weight_11 : decode cX1_weight 11 = .ok (.goto 9, 3) := by decide +kernel
theorem dX1_weight_14 : decode cX1_weight 14 = .ok (.aload_n 0, 1) := by decide +kernel
theorem dX1_weight_15 : decode cX1_weight 15 = .ok (.getfield 7, 3) := by decide +kernel
theorem dX1_weight_18 : decode cX1_weight 18 = .ok (.iload_n 1, 1) := by decide +kernel
theorem dX1_weight_19 : decode cX1_weight 19 = .ok (.iaload, 1) := by decide +kernel
theorem dX1_weight_20 : decode cX1_weight 20 = .ok (.ireturn, 1) := by decide +kernel
abbrev cX1_isBalance : ByteArray := prog_3_method_11_code
def yX1_isBalance : MethodName := ⟨RX1, "isBalance", "(I)I"⟩
theorem dX1_isBalance_0 : decode cX1_isBalance 0 = .ok (.aload_n 0, 1) := by decide +kernel
theorem dX1_isBalance_1 : decode cX1_isBalance 1 = .ok (.iload_n 1, 1) := by decide +kernel
theorem dX1_isBalance_2 : decode cX1_isBalance 2 = .ok (.invokevirtual 48, 3) := by decide +kernel
theorem dX1_isBalance_5 : decode cX1_isBalance 5 = .ok (.ifCond .eq 5, 3) := by decide +kernel
theorem dX1_isBalance_8 : decode cX1_isBalance 8 = .ok (.iconst (-1), 1) := by decide +kernel
theorem dX1_isBalance_9 : decode cX1_isBalance 9 = .ok (.ireturn, 1) := by decide +kernel
theorem dX1_isBalance_10 : decode cX1_isBalance 10 = .ok (.aload_n 0, 1) := by decide +kernel
theorem dX1_isBalance_11 : decode cX1_isBalance 11 = .ok (.iload_n 1, 1) := by decide +kernel
theorem dX1_isBalance_12 : decode cX1_isBalance 12 = .ok (.invokevirtual 41, 3) := by decide +kernel
theorem dX1_isBalance_15 : decode cX1_isBalance 15 = .ok (.ifCond .eq 7, 3) := by decide +kernel
theorem dX1_isBalance_18 : decode cX1_isBalance 18 = .ok (.iconst 1, 1) := by decide +kernel
theorem dX1_isBalance_19 : decode cX1_isBalance 19 = .ok (.goto 4, 3) := by decide +kernel
theorem dX1_isBalance_22 : decode cX1_isBalance 22 = .ok (.iconst 0, 1) := by decide +kernel
theorem dX1_isBalance_23 : decode cX1_isBalance 23 = .ok (.ireturn, 1) := by decide +kernel
abbrev cX1_badCode : ByteArray := prog_3_method_3_code
def yX1_badCode : MethodName := ⟨RX1, "badCode", "(I)Z"⟩
theorem dX1_badCode_0 : decode cX1_badCode 0 = .ok (.iload_n 1, 1) := by decide +kernel
theorem dX1_badCode_1 : decode cX1_badCode 1 = .ok (.ifCond .lt 10, 3) := by decide +kernel
theorem dX1_badCode_4 : decode cX1_badCode 4 = .ok (.iload_n 1, 1) := by decide +kernel
theorem dX1_badCode_5 : decode cX1_badCode 5 = .ok (.sipush 16806, 3) := by decide +kernel
theorem dX1_badCode_8 : decode cX1_badCode 8 = .ok (.if_icmp .le 7, 3) := by decide +kernel
theorem dX1_badCode_11 : decode cX1_badCode 11 = .ok (.iconst 1, 1) := by decide +kernel
theorem dX1_badCode_12 : decode cX1_badCode 12 = .ok (.goto 4, 3) := by decide +kernel
theorem dX1_badCode_15 : decode cX1_badCode 15 = .ok (.iconst 0, 1) := by decide +kernel
theorem dX1_badCode_16 : decode cX1_badCode 16 = .ok (.ireturn, 1) := by decide +kernel
abbrev cX1_balanced : ByteArray := prog_3_method_7_code
def yX1_balanced : MethodName := ⟨RX1, "balanced", "(I)Z"⟩
theorem dX1_balanced_0 : decode cX1_balanced 0 = .ok (.iconst 0, 1) := by decide +kernel
theorem dX1_balanced_1 : decode cX1_balanced 1 = .ok (.istore_n 2, 1) := by decide +kernel
theorem dX1_balanced_2 : decode cX1_balanced 2 = .ok (.iconst 0, 1) := by decide +kernel
theorem dX1_balanced_3 : decode cX1_balanced 3 = .ok (.istore_n 3, 1) := by decide +kernel
theorem dX1_balanced_4 : decode cX1_balanced 4 = .ok (.iload_n 3, 1) := by decide +kernel
theorem dX1_balanced_5 : decode cX1_balanced 5 = .ok (.iconst 5, 1) := by decide +kernel
theorem dX1_balanced_6 : decode cX1_balanced 6 = .ok (.if_icmp .ge 25, 3) := by decide +kernel
theorem dX1_balanced_9 : decode cX1_balanced 9 = .ok (.iload_n 2, 1) := by decide +kernel
theorem dX1_balanced_10 : decode cX1_balanced 10 = .ok (.aload_n 0, 1) := by decide +kernel
theorem dX1_balanced_11 : decode cX1_balanced 11 = .ok (.iload_n 1, 1) := by decide +kernel
theorem dX1_balanced_12 : decode cX1_balanced 12 = .ok (.iload_n 3, 1) := by decide +kernel
theorem dX1_balanced_13 : decode cX1_balanced 13 = .ok (.invokevirtual 26, 3) := by decide +kernel
theorem dX1_balanced_16 : decode cX1_balanced 16 = .ok (.aload_n 0, 1) := by decide +kernel
theorem dX1_balanced_17 : decode cX1_balanced 17 = .ok (.getfield 7, 3) := by decide +kernel
theorem dX1_balanced_20 : decode cX1_balanced 20 = .ok (.iload_n 3, 1) := by decide +kernel
theorem dX1_balanced_21 : decode cX1_balanced 21 = .ok (.iaload, 1) := by decide +kernel
theorem dX1_balanced_22 : decode cX1_balanced 22 = .ok (.imul, 1) := by decide +kernel
theorem dX1_balanced_23 : decode cX1_balanced 23 = .ok (.iadd, 1) := by decide +kernel
theorem dX1_balanced_24 : decode cX1_balanced 24 = .ok (.istore_n 2, 1) := by decide +kernel
theorem dX1_balanced_25 : decode cX1_balanced 25 = .ok (.iinc 3 1, 3) := by decide +kernel
theorem dX1_balanced_28 : decode cX1_balanced 28 = .ok (.goto (-24), 3) := by decide +kernel
theorem dX1_balanced_31 : decode cX1_balanced 31 = .ok (.iload_n 2, 1) := by decide +kernel
theorem dX1_balanced_32 : decode cX1_balanced 32 = .ok (.ifCond .ne 7, 3) := by decide +kernel
theorem dX1_balanced_35 : decode cX1_balanced 35 = .ok (.iconst 1, 1) := by decide +kernel
theorem dX1_balanced_36 : decode cX1_balanced 36 = .ok (.goto 4, 3) := by decide +kernel
theorem dX1_balanced_39 : decode cX1_balanced 39 = .ok (.iconst 0, 1) := by decide +kernel
theorem dX1_balanced_40 : decode cX1_balanced 40 = .ok (.ireturn, 1) := by decide +kernel
abbrev cX1_digit : ByteArray := prog_3_method_2_code
def yX1_digit : MethodName := ⟨RX1, "digit", "(II)I"⟩
theorem dX1_digit_0 : decode cX1_digit 0 = .ok (.iload_n 2, 1) := by decide +kernel
theorem dX1_digit_1 : decode cX1_digit 1 = .ok (.ifCond .ne 9, 3) := by decide +kernel
theorem dX1_digit_4 : decode cX1_digit 4 = .ok (.iload_n 1, 1) := by decide +kernel
theorem dX1_digit_5 : decode cX1_digit 5 = .ok (.sipush 2401, 3) := by decide +kernel
theorem dX1_digit_8 : decode cX1_digit 8 = .ok (.idiv, 1) := by decide +kernel
theorem dX1_digit_9 : decode cX1_digit 9 = .ok (.ireturn, 1) := by decide +kernel
theorem dX1_digit_10 : decode cX1_digit 10 = .ok (.iload_n 2, 1) := by decide +kernel
theorem dX1_digit_11 : decode cX1_digit 11 = .ok (.iconst 1, 1) := by decide +kernel
theorem dX1_digit_12 : decode cX1_digit 12 = .ok (.if_icmp .ne 12, 3) := by decide +kernel
theorem dX1_digit_15 : decode cX1_digit 15 = .ok (.iload_n 1, 1) := by decide +kernel
theorem dX1_digit_16 : decode cX1_digit 16 = .ok (.sipush 343, 3) := by decide +kernel
theorem dX1_digit_19 : decode cX1_digit 19 = .ok (.idiv, 1) := by decide +kernel
theorem dX1_digit_20 : decode cX1_digit 20 = .ok (.bipush 7, 2) := by decide +kernel
theorem dX1_digit_22 : decode cX1_digit 22 = .ok (.irem, 1) := by decide +kernel
theorem dX1_digit_23 : decode cX1_digit 23 = .ok (.ireturn, 1) := by decide +kernel
theorem dX1_digit_24 : decode cX1_digit 24 = .ok (.iload_n 2, 1) := by decide +kernel
theorem dX1_digit_25 : decode cX1_digit 25 = .ok (.iconst 2, 1) := by decide +kernel
theorem dX1_digit_26 : decode cX1_digit 26 = .ok (.if_icmp .ne 11, 3) := by decide +kernel
theorem dX1_digit_29 : decode cX1_digit 29 = .ok (.iload_n 1, 1) := by decide +kernel
theorem dX1_digit_30 : decode cX1_digit 30 = .ok (.bipush 49, 2) := by decide +kernel
theorem dX1_digit_32 : decode cX1_digit 32 = .ok (.idiv, 1) := by decide +kernel
theorem dX1_digit_33 : decode cX1_digit 33 = .ok (.bipush 7, 2) := by decide +kernel
theorem dX1_digit_35 : decode cX1_digit 35 = .ok (.irem, 1) := by decide +kernel
theorem dX1_digit_36 : decode cX1_digit 36 = .ok (.ireturn, 1) := by decide +kernel
theorem dX1_digit_37 : decode cX1_digit 37 = .ok (.iload_n 2, 1) := by decide +kernel
theorem dX1_digit_38 : decode cX1_digit 38 = .ok (.iconst 3, 1) := by decide +kernel
theorem dX1_digit_39 : decode cX1_digit 39 = .ok (.if_icmp .ne 13, 3) := by decide +kernel
theorem dX1_digit_42 : decode cX1_digit 42 = .ok (.iload_n 1, 1) := by decide +kernel
theorem dX1_digit_43 : decode cX1_digit 43 = .ok (.bipush 7, 2) := by decide +kernel
theorem dX1_digit_45 : decode cX1_digit 45 = .ok (.idiv, 1) := by decide +kernel
theorem dX1_digit_46 : decode cX1_digit 46 = .ok (.bipush 7, 2) := by decide +kernel
theorem dX1_digit_48 : decode cX1_digit 48 = .ok (.irem, 1) := by decide +kernel
theorem dX1_digit_49 : decode cX1_digit 49 = .ok (.goto 7, 3) := by decide +kernel
theorem dX1_digit_52 : decode cX1_digit 52 = .ok (.iload_n 1, 1) := by decide +kernel
theorem dX1_digit_53 : decode cX1_digit 53 = .ok (.bipush 7, 2) := by decide +kernel
theorem dX1_digit_55 : decode cX1_digit 55 = .ok (.irem, 1) := by decide +kernel
theorem dX1_digit_56 : decode cX1_digit 56 = .ok (.ireturn, 1) := by decide +kernel
abbrev cX1_isLeast : ByteArray := prog_3_method_12_code
def yX1_isLeast : MethodName := ⟨RX1, "isLeast", "(I)I"⟩
theorem dX1_isLeast_0 : decode cX1_isLeast 0 = .ok (.aload_n 0, 1) := by decide +kernel
theorem dX1_isLeast_1 : decode cX1_isLeast 1 = .ok (.iload_n 1, 1) := by decide +kernel
theorem dX1_isLeast_2 : decode cX1_isLeast 2 = .ok (.invokevirtual 48, 3) := by decide +kernel
theorem dX1_isLeast_5 : decode cX1_isLeast 5 = .ok (.ifCond .eq 5, 3) := by decide +kernel
theorem dX1_isLeast_8 : decode cX1_isLeast 8 = .ok (.iconst (-1), 1) := by decide +kernel
theorem dX1_isLeast_9 : decode cX1_isLeast 9 = .ok (.ireturn, 1) := by decide +kernel
theorem dX1_isLeast_10 : decode cX1_isLeast 10 = .ok (.aload_n 0, 1) := by decide +kernel
theorem dX1_isLeast_11 : decode cX1_isLeast 11 = .ok (.invokevirtual 51, 3) := by decide +kernel
theorem dX1_isLeast_14 : decode cX1_isLeast 14 = .ok (.iconst 0, 1) := by decide +kernel
theorem dX1_isLeast_15 : decode cX1_isLeast 15 = .ok (.istore_n 2, 1) := by decide +kernel
theorem dX1_isLeast_16 : decode cX1_isLeast 16 = .ok (.iload_n 2, 1) := by decide +kernel
theorem dX1_isLeast_17 : decode cX1_isLeast 17 = .ok (.aload_n 0, 1) := by decide +kernel
theorem dX1_isLeast_18 : decode cX1_isLeast 18 = .ok (.getfield 30, 3) := by decide +kernel
theorem dX1_isLeast_21 : decode cX1_isLeast 21 = .ok (.if_icmp .ge 28, 3) := by decide +kernel
theorem dX1_isLeast_24 : decode cX1_isLeast 24 = .ok (.iload_n 2, 1) := by decide +kernel
theorem dX1_isLeast_25 : decode cX1_isLeast 25 = .ok (.sipush 2000, 3) := by decide +kernel
theorem dX1_isLeast_28 : decode cX1_isLeast 28 = .ok (.if_icmp .ge 21, 3) := by decide +kernel
theorem dX1_isLeast_31 : decode cX1_isLeast 31 = .ok (.aload_n 0, 1) := by decide +kernel
theorem dX1_isLeast_32 : decode cX1_isLeast 32 = .ok (.getfield 13, 3) := by decide +kernel
theorem dX1_isLeast_35 : decode cX1_isLeast 35 = .ok (.iload_n 2, 1) := by decide +kernel
theorem dX1_isLeast_36 : decode cX1_isLeast 36 = .ok (.iaload, 1) := by decide +kernel
theorem dX1_isLeast_37 : decode cX1_isLeast 37 = .ok (.iload_n 1, 1) := by decide +kernel
theorem dX1_isLeast_38 : decode cX1_isLeast 38 = .ok (.if_icmp .ne 5, 3) := by decide +kernel
theorem dX1_isLeast_41 : decode cX1_isLeast 41 = .ok (.iconst 1, 1) := by decide +kernel
theorem dX1_isLeast_42 : decode cX1_isLeast 42 = .ok (.ireturn, 1) := by decide +kernel
theorem dX1_isLeast_43 : decode cX1_isLeast 43 = .ok (.iinc 2 1, 3) := by decide +kernel
theorem dX1_isLeast_46 : decode cX1_isLeast 46 = .ok (.goto (-30), 3) := by decide +kernel
theorem dX1_isLeast_49 : decode cX1_isLeast 49 = .ok (.iconst 0, 1) := by decide +kernel
theorem dX1_isLeast_50 : decode cX1_isLeast 50 = .ok (.ireturn, 1) := by decide +kernel
abbrev cX1_work : ByteArray := prog_3_method_10_code
def yX1_work : MethodName := ⟨RX1, "work", "()V"⟩
theorem dX1_work_0 : decode cX1_work 0 = .ok (.aload_n 0, 1) := by decide +kernel
theorem dX1_work_1 : decode cX1_work 1 = .ok (.getfield 22, 3) := by decide +kernel
theorem dX1_work_4 : decode cX1_work 4 = .ok (.ifCond .ne 95, 3) := by decide +kernel
theorem dX1_work_7 : decode cX1_work 7 = .ok (.aload_n 0, 1) := by decide +kernel
theorem dX1_work_8 : decode cX1_work 8 = .ok (.iconst 0, 1) := by decide +kernel
theorem dX1_work_9 : decode cX1_work 9 = .ok (.putfield 30, 3) := by decide +kernel
theorem dX1_work_12 : decode cX1_work 12 = .ok (.aload_n 0, 1) := by decide +kernel
theorem dX1_work_13 : decode cX1_work 13 = .ok (.iconst 1, 1) := by decide +kernel
theorem dX1_work_14 : decode cX1_work 14 = .ok (.putfield 38, 3) := by decide +kernel
theorem dX1_work_17 : decode cX1_work 17 = .ok (.iconst 1, 1) := by decide +kernel
theorem dX1_work_18 : decode cX1_work 18 = .ok (.istore_n 1, 1) := by decide +kernel
theorem dX1_work_19 : decode cX1_work 19 = .ok (.iload_n 1, 1) := by decide +kernel
theorem dX1_work_20 : decode cX1_work 20 = .ok (.sipush 16807, 3) := by decide +kernel
theorem dX1_work_23 : decode cX1_work 23 = .ok (.if_icmp .ge 71, 3) := by decide +kernel
theorem dX1_work_26 : decode cX1_work 26 = .ok (.aload_n 0, 1) := by decide +kernel
theorem dX1_work_27 : decode cX1_work 27 = .ok (.iload_n 1, 1) := by decide +kernel
theorem dX1_work_28 : decode cX1_work 28 = .ok (.invokevirtual 41, 3) := by decide +kernel
theorem dX1_work_31 : decode cX1_work 31 = .ok (.istore_n 2, 1) := by decide +kernel
theorem dX1_work_32 : decode cX1_work 32 = .ok (.iload_n 2, 1) := by decide +kernel
theorem dX1_work_33 : decode cX1_work 33 = .ok (.ifCond .eq 13, 3) := by decide +kernel
theorem dX1_work_36 : decode cX1_work 36 = .ok (.aload_n 0, 1) := by decide +kernel
theorem dX1_work_37 : decode cX1_work 37 = .ok (.dup, 1) := by decide +kernel
theorem dX1_work_38 : decode cX1_work 38 = .ok (.getfield 38, 3) := by decide +kernel
theorem dX1_work_41 : decode cX1_work 41 = .ok (.iconst 1, 1) := by decide +kernel
theorem dX1_work_42 : decode cX1_work 42 = .ok (.iadd, 1) := by decide +kernel
theorem dX1_work_43 : decode cX1_work 43 = .ok (.putfield 38, 3) := by decide +kernel
theorem dX1_work_46 : decode cX1_work 46 = .ok (.iload_n 2, 1) := by decide +kernel
theorem dX1_work_47 : decode cX1_work 47 = .ok (.ifCond .eq 41, 3) := by decide +kernel
theorem dX1_work_50 : decode cX1_work 50 = .ok (.aload_n 0, 1) := by decide +kernel
theorem dX1_work_51 : decode cX1_work 51 = .ok (.getfield 30, 3) := by decide +kernel
theorem dX1_work_54 : decode cX1_work 54 = .ok (.sipush 2000, 3) := by decide +kernel
theorem dX1_work_57 : decode cX1_work 57 = .ok (.if_icmp .ge 31, 3) := by decide +kernel
theorem dX1_work_60 : decode cX1_work 60 = .ok (.aload_n 0, 1) := by decide +kernel
theorem dX1_work_61 : decode cX1_work 61 = .ok (.iload_n 1, 1) := by decide +kernel
theorem dX1_work_62 : decode cX1_work 62 = .ok (.invokevirtual 45, 3) := by decide +kernel
theorem dX1_work_65 : decode cX1_work 65 = .ok (.ifCond .eq 23, 3) := by decide +kernel
theorem dX1_work_68 : decode cX1_work 68 = .ok (.aload_n 0, 1) := by decide +kernel
theorem dX1_work_69 : decode cX1_work 69 = .ok (.getfield 13, 3) := by decide +kernel
theorem dX1_work_72 : decode cX1_work 72 = .ok (.aload_n 0, 1) := by decide +kernel
theorem dX1_work_73 : decode cX1_work 73 = .ok (.getfield 30, 3) := by decide +kernel
theorem dX1_work_76 : decode cX1_work 76 = .ok (.iload_n 1, 1) := by decide +kernel
theorem dX1_work_77 : decode cX1_work 77 = .ok (.iastore, 1) := by decide +kernel
theorem dX1_work_78 : decode cX1_work 78 = .ok (.aload_n 0, 1) := by decide +kernel
theorem dX1_work_79 : decode cX1_work 79 = .ok (.dup, 1) := by decide +kernel
theorem dX1_work_80 : decode cX1_work 80 = .ok (.getfield 30, 3) := by decide +kernel
theorem dX1_work_83 : decode cX1_work 83 = .ok (.iconst 1, 1) := by decide +kernel
theorem dX1_work_84 : decode cX1_work 84 = .ok (.iadd, 1) := by decide +kernel
theorem dX1_work_85 : decode cX1_work 85 = .ok (.putfield 30, 3) := by decide +kernel
theorem dX1_work_88 : decode cX1_work 88 = .ok (.iinc 1 1, 3) := by decide +kernel
theorem dX1_work_91 : decode cX1_work 91 = .ok (.goto (-72), 3) := by decide +kernel
theorem dX1_work_94 : decode cX1_work 94 = .ok (.aload_n 0, 1) := by decide +kernel
theorem dX1_work_95 : decode cX1_work 95 = .ok (.iconst 1, 1) := by decide +kernel
theorem dX1_work_96 : decode cX1_work 96 = .ok (.putfield 22, 3) := by decide +kernel
theorem dX1_work_99 : decode cX1_work 99 = .ok (.return_, 1) := by decide +kernel
abbrev cX1_alone : ByteArray := prog_3_method_9_code
def yX1_alone : MethodName := ⟨RX1, "alone", "(I)Z"⟩
theorem dX1_alone_0 : decode cX1_alone 0 = .ok (.iconst 0, 1) := by decide +kernel
theorem dX1_alone_1 : decode cX1_alone 1 = .ok (.istore_n 2, 1) := by decide +kernel
theorem dX1_alone_2 : decode cX1_alone 2 = .ok (.iload_n 2, 1) := by decide +kernel
theorem dX1_alone_3 : decode cX1_alone 3 = .ok (.aload_n 0, 1) := by decide +kernel
theorem dX1_alone_4 : decode cX1_alone 4 = .ok (.getfield 30, 3) := by decide +kernel
theorem dX1_alone_7 : decode cX1_alone 7 = .ok (.if_icmp .ge 32, 3) := by decide +kernel
theorem dX1_alone_10 : decode cX1_alone 10 = .ok (.iload_n 2, 1) := by decide +kernel
theorem dX1_alone_11 : decode cX1_alone 11 = .ok (.sipush 2000, 3) := by decide +kernel
theorem dX1_alone_14 : decode cX1_alone 14 = .ok (.if_icmp .ge 25, 3) := by decide +kernel
theorem dX1_alone_17 : decode cX1_alone 17 = .ok (.aload_n 0, 1) := by decide +kernel
theorem dX1_alone_18 : decode cX1_alone 18 = .ok (.aload_n 0, 1) := by decide +kernel
theorem dX1_alone_19 : decode cX1_alone 19 = .ok (.getfield 13, 3) := by decide +kernel
theorem dX1_alone_22 : decode cX1_alone 22 = .ok (.iload_n 2, 1) := by decide +kernel
theorem dX1_alone_23 : decode cX1_alone 23 = .ok (.iaload, 1) := by decide +kernel
theorem dX1_alone_24 : decode cX1_alone 24 = .ok (.iload_n 1, 1) := by decide +kernel
theorem dX1_alone_25 : decode cX1_alone 25 = .ok (.invokevirtual 34, 3) := by decide +kernel
theorem dX1_alone_28 : decode cX1_alone 28 = .ok (.ifCond .eq 5, 3) := by decide +kernel
theorem dX1_alone_31 : decode cX1_alone 31 = .ok (.iconst 0, 1) := by decide +kernel
theorem dX1_alone_32 : decode cX1_alone 32 = .ok (.ireturn, 1) := by decide +kernel
theorem dX1_alone_33 : decode cX1_alone 33 = .ok (.iinc 2 1, 3) := by decide +kernel
theorem dX1_alone_36 : decode cX1_alone 36 = .ok (.goto (-34), 3) := by decide +kernel
theorem dX1_alone_39 : decode cX1_alone 39 = .ok (.iconst 1, 1) := by decide +kernel
theorem dX1_alone_40 : decode cX1_alone 40 = .ok (.ireturn, 1) := by decide +kernel
abbrev cX1_part : ByteArray := prog_3_method_8_code
def yX1_part : MethodName := ⟨RX1, "part", "(II)Z"⟩
theorem dX1_part_0 : decode cX1_part 0 = .ok (.iconst 0, 1) := by decide +kernel
theorem dX1_part_1 : decode cX1_part 1 = .ok (.istore_n 3, 1) := by decide +kernel
theorem dX1_part_2 : decode cX1_part 2 = .ok (.iload_n 3, 1) := by decide +kernel
theorem dX1_part_3 : decode cX1_part 3 = .ok (.iconst 5, 1) := by decide +kernel
theorem dX1_part_4 : decode cX1_part 4 = .ok (.if_icmp .ge 26, 3) := by decide +kernel
theorem dX1_part_7 : decode cX1_part 7 = .ok (.aload_n 0, 1) := by decide +kernel
theorem dX1_part_8 : decode cX1_part 8 = .ok (.iload_n 1, 1) := by decide +kernel
theorem dX1_part_9 : decode cX1_part 9 = .ok (.iload_n 3, 1) := by decide +kernel
theorem dX1_part_10 : decode cX1_part 10 = .ok (.invokevirtual 26, 3) := by decide +kernel
theorem dX1_part_13 : decode cX1_part 13 = .ok (.aload_n 0, 1) := by decide +kernel
theorem dX1_part_14 : decode cX1_part 14 = .ok (.iload_n 2, 1) := by decide +kernel
theorem dX1_part_15 : decode cX1_part 15 = .ok (.iload_n 3, 1) := by decide +kernel
theorem dX1_part_16 : decode cX1_part 16 = .ok (.invokevirtual 26, 3) := by decide +kernel
theorem dX1_part_19 : decode cX1_part 19 = .ok (.if_icmp .le 5, 3) := by decide +kernel
theorem dX1_part_22 : decode cX1_part 22 = .ok (.iconst 0, 1) := by decide +kernel
theorem dX1_part_23 : decode cX1_part 23 = .ok (.ireturn, 1) := by decide +kernel
theorem dX1_part_24 : decode cX1_part 24 = .ok (.iinc 3 1, 3) := by decide +kernel
theorem dX1_part_27 : decode cX1_part 27 = .ok (.goto (-25), 3) := by decide +kernel
theorem dX1_part_30 : decode cX1_part 30 = .ok (.iconst 1, 1) := by decide +kernel
theorem dX1_part_31 : decode cX1_part 31 = .ok (.ireturn, 1) := by decide +kernel
abbrev cX1_least : ByteArray := prog_3_method_13_code
def yX1_least : MethodName := ⟨RX1, "least", "()I"⟩
theorem dX1_least_0 : decode cX1_least 0 = .ok (.aload_n 0, 1) := by decide +kernel
theorem dX1_least_1 : decode cX1_least 1 = .ok (.invokevirtual 51, 3) := by decide +kernel
theorem dX1_least_4 : decode cX1_least 4 = .ok (.aload_n 0, 1) := by decide +kernel
theorem dX1_least_5 : decode cX1_least 5 = .ok (.getfield 30, 3) := by decide +kernel
theorem dX1_least_8 : decode cX1_least 8 = .ok (.ireturn, 1) := by decide +kernel
abbrev cX1_code : ByteArray := prog_3_method_14_code
def yX1_code : MethodName := ⟨RX1, "code", "(I)I"⟩
theorem dX1_code_0 : decode cX1_code 0 = .ok (.aload_n 0, 1) := by decide +kernel
theorem dX1_code_1 : decode cX1_code 1 = .ok (.invokevirtual 51, 3) := by decide +kernel
theorem dX1_code_4 : decode cX1_code 4 = .ok (.iload_n 1, 1) := by decide +kernel
theorem dX1_code_5 : decode cX1_code 5 = .ok (.ifCond .lt 18, 3) := by decide +kernel
theorem dX1_code_8 : decode cX1_code 8 = .ok (.iload_n 1, 1) := by decide +kernel
theorem dX1_code_9 : decode cX1_code 9 = .ok (.aload_n 0, 1) := by decide +kernel
theorem dX1_code_10 : decode cX1_code 10 = .ok (.getfield 30, 3) := by decide +kernel
theorem dX1_code_13 : decode cX1_code 13 = .ok (.if_icmp .ge 10, 3) := by decide +kernel
theorem dX1_code_16 : decode cX1_code 16 = .ok (.iload_n 1, 1) := by decide +kernel
theorem dX1_code_17 : decode cX1_code 17 = .ok (.sipush 1999, 3) := by decide +kernel
theorem dX1_code_20 : decode cX1_code 20 = .ok (.if_icmp .le 7, 3) := by decide +kernel
theorem dX1_code_23 : decode cX1_code 23 = .ok (.iconst (-1), 1) := by decide +kernel
theorem dX1_code_24 : decode cX1_code 24 = .ok (.goto 9, 3) := by decide +kernel
theorem dX1_code_27 : decode cX1_code 27 = .ok (.aload_n 0, 1) := by decide +kernel
theorem dX1_code_28 : decode cX1_code 28 = .ok (.getfield 13, 3) := by decide +kernel
theorem dX1_code_31 : decode cX1_code 31 = .ok (.iload_n 1, 1) := by decide +kernel
theorem dX1_code_32 : decode cX1_code 32 = .ok (.iaload, 1) := by decide +kernel
theorem dX1_code_33 : decode cX1_code 33 = .ok (.ireturn, 1) := by decide +kernel
abbrev cX1_using : ByteArray := prog_3_method_15_code
def yX1_using : MethodName := ⟨RX1, "using", "(I)I"⟩
theorem dX1_using_0 : decode cX1_using 0 = .ok (.iload_n 1, 1) := by decide +kernel
theorem dX1_using_1 : decode cX1_using 1 = .ok (.ifCond .lt 8, 3) := by decide +kernel
theorem dX1_using_4 : decode cX1_using 4 = .ok (.iload_n 1, 1) := by decide +kernel
theorem dX1_using_5 : decode cX1_using 5 = .ok (.iconst 4, 1) := by decide +kernel
theorem dX1_using_6 : decode cX1_using 6 = .ok (.if_icmp .le 5, 3) := by decide +kernel
theorem dX1_using_9 : decode cX1_using 9 = .ok (.iconst (-1), 1) := by decide +kernel
theorem dX1_using_10 : decode cX1_using 10 = .ok (.ireturn, 1) := by decide +kernel
theorem dX1_using_11 : decode cX1_using 11 = .ok (.aload_n 0, 1) := by decide +kernel
theorem dX1_using_12 : decode cX1_using 12 = .ok (.invokevirtual 51, 3) := by decide +kernel
theorem dX1_using_15 : decode cX1_using 15 = .ok (.iconst 0, 1) := by decide +kernel
theorem dX1_using_16 : decode cX1_using 16 = .ok (.istore_n 2, 1) := by decide +kernel
theorem dX1_using_17 : decode cX1_using 17 = .ok (.iconst 0, 1) := by decide +kernel
theorem dX1_using_18 : decode cX1_using 18 = .ok (.istore_n 3, 1) := by decide +kernel
theorem dX1_using_19 : decode cX1_using 19 = .ok (.iload_n 3, 1) := by decide +kernel
theorem dX1_using_20 : decode cX1_using 20 = .ok (.aload_n 0, 1) := by decide +kernel
theorem dX1_using_21 : decode cX1_using 21 = .ok (.getfield 30, 3) := by decide +kernel
theorem dX1_using_24 : decode cX1_using 24 = .ok (.if_icmp .ge 33, 3) := by decide +kernel
theorem dX1_using_27 : decode cX1_using 27 = .ok (.iload_n 3, 1) := by decide +kernel
theorem dX1_using_28 : decode cX1_using 28 = .ok (.sipush 2000, 3) := by decide +kernel
theorem dX1_using_31 : decode cX1_using 31 = .ok (.if_icmp .ge 26, 3) := by decide +kernel
theorem dX1_using_34 : decode cX1_using 34 = .ok (.aload_n 0, 1) := by decide +kernel
theorem dX1_using_35 : decode cX1_using 35 = .ok (.aload_n 0, 1) := by decide +kernel
theorem dX1_using_36 : decode cX1_using 36 = .ok (.getfield 13, 3) := by decide +kernel
theorem dX1_using_39 : decode cX1_using 39 = .ok (.iload_n 3, 1) := by decide +kernel
theorem dX1_using_40 : decode cX1_using 40 = .ok (.iaload, 1) := by decide +kernel
theorem dX1_using_41 : decode cX1_using 41 = .ok (.iload_n 1, 1) := by decide +kernel
theorem dX1_using_42 : decode cX1_using 42 = .ok (.invokevirtual 26, 3) := by decide +kernel
theorem dX1_using_45 : decode cX1_using 45 = .ok (.ifCond .le 6, 3) := by decide +kernel
theorem dX1_using_48 : decode cX1_using 48 = .ok (.iinc 2 1, 3) := by decide +kernel
theorem dX1_using_51 : decode cX1_using 51 = .ok (.iinc 3 1, 3) := by decide +kernel
theorem dX1_using_54 : decode cX1_using 54 = .ok (.goto (-35), 3) := by decide +kernel
theorem dX1_using_57 : decode cX1_using 57 = .ok (.iload_n 2, 1) := by decide +kernel
theorem dX1_using_58 : decode cX1_using 58 = .ok (.ireturn, 1) := by decide +kernel
abbrev cX1_longest : ByteArray := prog_3_method_16_code
def yX1_longest : MethodName := ⟨RX1, "longest", "()I"⟩
theorem dX1_longest_0 : decode cX1_longest 0 = .ok (.aload_n 0, 1) := by decide +kernel
theorem dX1_longest_1 : decode cX1_longest 1 = .ok (.invokevirtual 51, 3) := by decide +kernel
theorem dX1_longest_4 : decode cX1_longest 4 = .ok (.iconst 0, 1) := by decide +kernel
theorem dX1_longest_5 : decode cX1_longest 5 = .ok (.istore_n 1, 1) := by decide +kernel
theorem dX1_longest_6 : decode cX1_longest 6 = .ok (.iconst 0, 1) := by decide +kernel
theorem dX1_longest_7 : decode cX1_longest 7 = .ok (.istore_n 2, 1) := by decide +kernel
theorem dX1_longest_8 : decode cX1_longest 8 = .ok (.iload_n 2, 1) := by decide +kernel
theorem dX1_longest_9 : decode cX1_longest 9 = .ok (.aload_n 0, 1) := by decide +kernel
theorem dX1_longest_10 : decode cX1_longest 10 = .ok (.getfield 30, 3) := by decide +kernel
theorem dX1_longest_13 : decode cX1_longest 13 = .ok (.if_icmp .ge 55, 3) := by decide +kernel
theorem dX1_longest_16 : decode cX1_longest 16 = .ok (.iload_n 2, 1) := by decide +kernel
theorem dX1_longest_17 : decode cX1_longest 17 = .ok (.sipush 2000, 3) := by decide +kernel
theorem dX1_longest_20 : decode cX1_longest 20 = .ok (.if_icmp .ge 48, 3) := by decide +kernel
theorem dX1_longest_23 : decode cX1_longest 23 = .ok (.iconst 0, 1) := by decide +kernel
theorem dX1_longest_24 : decode cX1_longest 24 = .ok (.istore_n 3, 1) := by decide +kernel
theorem dX1_longest_25 : decode cX1_longest 25 = .ok (.iconst 0, 1) := by decide +kernel
theorem dX1_longest_26 : decode cX1_longest 26 = .ok (.istore 4, 2) := by decide +kernel
theorem dX1_longest_28 : decode cX1_longest 28 = .ok (.iload 4, 2) := by decide +kernel
theorem dX1_longest_30 : decode cX1_longest 30 = .ok (.iconst 5, 1) := by decide +kernel
theorem dX1_longest_31 : decode cX1_longest 31 = .ok (.if_icmp .ge 24, 3) := by decide +kernel
theorem dX1_longest_34 : decode cX1_longest 34 = .ok (.iload_n 3, 1) := by decide +kernel
theorem dX1_longest_35 : decode cX1_longest 35 = .ok (.aload_n 0, 1) := by decide +kernel
theorem dX1_longest_36 : decode cX1_longest 36 = .ok (.aload_n 0, 1) := by decide +kernel
theorem dX1_longest_37 : decode cX1_longest 37 = .ok (.getfield 13, 3) := by decide +kernel
theorem dX1_longest_40 : decode cX1_longest 40 = .ok (.iload_n 2, 1) := by decide +kernel
theorem dX1_longest_41 : decode cX1_longest 41 = .ok (.iaload, 1) := by decide +kernel
theorem dX1_longest_42 : decode cX1_longest 42 = .ok (.iload 4, 2) := by decide +kernel
theorem dX1_longest_44 : decode cX1_longest 44 = .ok (.invokevirtual 26, 3) := by decide +kernel
theorem dX1_longest_47 : decode cX1_longest 47 = .ok (.iadd, 1) := by decide +kernel
theorem dX1_longest_48 : decode cX1_longest 48 = .ok (.istore_n 3, 1) := by decide +kernel
theorem dX1_longest_49 : decode cX1_longest 49 = .ok (.iinc 4 1, 3) := by decide +kernel
theorem dX1_longest_52 : decode cX1_longest 52 = .ok (.goto (-24), 3) := by decide +kernel
theorem dX1_longest_55 : decode cX1_longest 55 = .ok (.iload_n 3, 1) := by decide +kernel
theorem dX1_longest_56 : decode cX1_longest 56 = .ok (.iload_n 1, 1) := by decide +kernel
theorem dX1_longest_57 : decode cX1_longest 57 = .ok (.if_icmp .le 5, 3) := by decide +kernel
theorem dX1_longest_60 : decode cX1_longest 60 = .ok (.iload_n 3, 1) := by decide +kernel
theorem dX1_longest_61 : decode cX1_longest 61 = .ok (.istore_n 1, 1) := by decide +kernel
theorem dX1_longest_62 : decode cX1_longest 62 = .ok (.iinc 2 1, 3) := by decide +kernel
theorem dX1_longest_65 : decode cX1_longest 65 = .ok (.goto (-57), 3) := by decide +kernel
theorem dX1_longest_68 : decode cX1_longest 68 = .ok (.iload_n 1, 1) := by decide +kernel
theorem dX1_longest_69 : decode cX1_longest 69 = .ok (.ireturn, 1) := by decide +kernel
abbrev cX1_balances : ByteArray := prog_3_method_18_code
def yX1_balances : MethodName := ⟨RX1, "balances", "(I)I"⟩
theorem dX1_balances_0 : decode cX1_balances 0 = .ok (.iload_n 1, 1) := by decide +kernel
theorem dX1_balances_1 : decode cX1_balances 1 = .ok (.ifCond .lt 9, 3) := by decide +kernel
theorem dX1_balances_4 : decode cX1_balances 4 = .ok (.iload_n 1, 1) := by decide +kernel
theorem dX1_balances_5 : decode cX1_balances 5 = .ok (.bipush 20, 2) := by decide +kernel
theorem dX1_balances_7 : decode cX1_balances 7 = .ok (.if_icmp .le 5, 3) := by decide +kernel
theorem dX1_balances_10 : decode cX1_balances 10 = .ok (.iconst (-1), 1) := by decide +kernel
theorem dX1_balances_11 : decode cX1_balances 11 = .ok (.ireturn, 1) := by decide +kernel
theorem dX1_balances_12 : decode cX1_balances 12 = .ok (.iconst 0, 1) := by decide +kernel
theorem dX1_balances_13 : decode cX1_balances 13 = .ok (.istore_n 2, 1) := by decide +kernel
theorem dX1_balances_14 : decode cX1_balances 14 = .ok (.iconst 0, 1) := by decide +kernel
theorem dX1_balances_15 : decode cX1_balances 15 = .ok (.istore_n 3, 1) := by decide +kernel
theorem dX1_balances_16 : decode cX1_balances 16 = .ok (.iload_n 3, 1) := by decide +kernel
theorem dX1_balances_17 : decode cX1_balances 17 = .ok (.iload_n 1, 1) := by decide +kernel
theorem dX1_balances_18 : decode cX1_balances 18 = .ok (.if_icmp .gt 58, 3) := by decide +kernel
theorem dX1_balances_21 : decode cX1_balances 21 = .ok (.iconst 0, 1) := by decide +kernel
theorem dX1_balances_22 : decode cX1_balances 22 = .ok (.istore 4, 2) := by decide +kernel
theorem dX1_balances_24 : decode cX1_balances 24 = .ok (.iload 4, 2) := by decide +kernel
theorem dX1_balances_26 : decode cX1_balances 26 = .ok (.iload_n 1, 1) := by decide +kernel
theorem dX1_balances_27 : decode cX1_balances 27 = .ok (.iload_n 3, 1) := by decide +kernel
theorem dX1_balances_28 : decode cX1_balances 28 = .ok (.isub, 1) := by decide +kernel
theorem dX1_balances_29 : decode cX1_balances 29 = .ok (.if_icmp .gt 41, 3) := by decide +kernel
theorem dX1_balances_32 : decode cX1_balances 32 = .ok (.iload_n 2, 1) := by decide +kernel
theorem dX1_balances_33 : decode cX1_balances 33 = .ok (.aload_n 0, 1) := by decide +kernel
theorem dX1_balances_34 : decode cX1_balances 34 = .ok (.iload_n 1, 1) := by decide +kernel
theorem dX1_balances_35 : decode cX1_balances 35 = .ok (.iload_n 3, 1) := by decide +kernel
theorem dX1_balances_36 : decode cX1_balances 36 = .ok (.isub, 1) := by decide +kernel
theorem dX1_balances_37 : decode cX1_balances 37 = .ok (.iload 4, 2) := by decide +kernel
theorem dX1_balances_39 : decode cX1_balances 39 = .ok (.isub, 1) := by decide +kernel
theorem dX1_balances_40 : decode cX1_balances 40 = .ok (.iload_n 3, 1) := by decide +kernel
theorem dX1_balances_41 : decode cX1_balances 41 = .ok (.ineg, 1) := by decide +kernel
theorem dX1_balances_42 : decode cX1_balances 42 = .ok (.aload_n 0, 1) := by decide +kernel
theorem dX1_balances_43 : decode cX1_balances 43 = .ok (.getfield 7, 3) := by decide +kernel
theorem dX1_balances_46 : decode cX1_balances 46 = .ok (.iconst 0, 1) := by decide +kernel
theorem dX1_balances_47 : decode cX1_balances 47 = .ok (.iaload, 1) := by decide +kernel
theorem dX1_balances_48 : decode cX1_balances 48 = .ok (.imul, 1) := by decide +kernel
theorem dX1_balances_49 : decode cX1_balances 49 = .ok (.iload 4, 2) := by decide +kernel
theorem dX1_balances_51 : decode cX1_balances 51 = .ok (.aload_n 0, 1) := by decide +kernel
theorem dX1_balances_52 : decode cX1_balances 52 = .ok (.getfield 7, 3) := by decide +kernel
theorem dX1_balances_55 : decode cX1_balances 55 = .ok (.iconst 1, 1) := by decide +kernel
theorem dX1_balances_56 : decode cX1_balances 56 = .ok (.iaload, 1) := by decide +kernel
theorem dX1_balances_57 : decode cX1_balances 57 = .ok (.imul, 1) := by decide +kernel
theorem dX1_balances_58 : decode cX1_balances 58 = .ok (.isub, 1) := by decide +kernel
theorem dX1_balances_59 : decode cX1_balances 59 = .ok (.invokevirtual 54, 3) := by decide +kernel
theorem dX1_balances_62 : decode cX1_balances 62 = .ok (.iadd, 1) := by decide +kernel
theorem dX1_balances_63 : decode cX1_balances 63 = .ok (.istore_n 2, 1) := by decide +kernel
theorem dX1_balances_64 : decode cX1_balances 64 = .ok (.iinc 4 1, 3) := by decide +kernel
theorem dX1_balances_67 : decode cX1_balances 67 = .ok (.goto (-43), 3) := by decide +kernel
theorem dX1_balances_70 : decode cX1_balances 70 = .ok (.iinc 3 1, 3) := by decide +kernel
theorem dX1_balances_73 : decode cX1_balances 73 = .ok (.goto (-57), 3) := by decide +kernel
theorem dX1_balances_76 : decode cX1_balances 76 = .ok (.iload_n 2, 1) := by decide +kernel
theorem dX1_balances_77 : decode cX1_balances 77 = .ok (.ireturn, 1) := by decide +kernel
abbrev cX1_lastThree : ByteArray := prog_3_method_17_code
def yX1_lastThree : MethodName := ⟨RX1, "lastThree", "(II)I"⟩
theorem dX1_lastThree_0 : decode cX1_lastThree 0 = .ok (.iconst 0, 1) := by decide +kernel
theorem dX1_lastThree_1 : decode cX1_lastThree 1 = .ok (.istore_n 3, 1) := by decide +kernel
theorem dX1_lastThree_2 : decode cX1_lastThree 2 = .ok (.iconst 0, 1) := by decide +kernel
theorem dX1_lastThree_3 : decode cX1_lastThree 3 = .ok (.istore 4, 2) := by decide +kernel
theorem dX1_lastThree_5 : decode cX1_lastThree 5 = .ok (.iload 4, 2) := by decide +kernel
theorem dX1_lastThree_7 : decode cX1_lastThree 7 = .ok (.iload_n 1, 1) := by decide +kernel
theorem dX1_lastThree_8 : decode cX1_lastThree 8 = .ok (.if_icmp .gt 68, 3) := by decide +kernel
theorem dX1_lastThree_11 : decode cX1_lastThree 11 = .ok (.iconst 0, 1) := by decide +kernel
theorem dX1_lastThree_12 : decode cX1_lastThree 12 = .ok (.istore 5, 2) := by decide +kernel
theorem dX1_lastThree_14 : decode cX1_lastThree 14 = .ok (.iload 5, 2) := by decide +kernel
theorem dX1_lastThree_16 : decode cX1_lastThree 16 = .ok (.iload_n 1, 1) := by decide +kernel
theorem dX1_lastThree_17 : decode cX1_lastThree 17 = .ok (.iload 4, 2) := by decide +kernel
theorem dX1_lastThree_19 : decode cX1_lastThree 19 = .ok (.isub, 1) := by decide +kernel
theorem dX1_lastThree_20 : decode cX1_lastThree 20 = .ok (.if_icmp .gt 50, 3) := by decide +kernel
theorem dX1_lastThree_23 : decode cX1_lastThree 23 = .ok (.iload 4, 2) := by decide +kernel
theorem dX1_lastThree_25 : decode cX1_lastThree 25 = .ok (.aload_n 0, 1) := by decide +kernel
theorem dX1_lastThree_26 : decode cX1_lastThree 26 = .ok (.getfield 7, 3) := by decide +kernel
theorem dX1_lastThree_29 : decode cX1_lastThree 29 = .ok (.iconst 2, 1) := by decide +kernel
theorem dX1_lastThree_30 : decode cX1_lastThree 30 = .ok (.iaload, 1) := by decide +kernel
theorem dX1_lastThree_31 : decode cX1_lastThree 31 = .ok (.imul, 1) := by decide +kernel
theorem dX1_lastThree_32 : decode cX1_lastThree 32 = .ok (.iload 5, 2) := by decide +kernel
theorem dX1_lastThree_34 : decode cX1_lastThree 34 = .ok (.aload_n 0, 1) := by decide +kernel
theorem dX1_lastThree_35 : decode cX1_lastThree 35 = .ok (.getfield 7, 3) := by decide +kernel
theorem dX1_lastThree_38 : decode cX1_lastThree 38 = .ok (.iconst 3, 1) := by decide +kernel
theorem dX1_lastThree_39 : decode cX1_lastThree 39 = .ok (.iaload, 1) := by decide +kernel
theorem dX1_lastThree_40 : decode cX1_lastThree 40 = .ok (.imul, 1) := by decide +kernel
theorem dX1_lastThree_41 : decode cX1_lastThree 41 = .ok (.iadd, 1) := by decide +kernel
theorem dX1_lastThree_42 : decode cX1_lastThree 42 = .ok (.iload_n 1, 1) := by decide +kernel
theorem dX1_lastThree_43 : decode cX1_lastThree 43 = .ok (.iload 4, 2) := by decide +kernel
theorem dX1_lastThree_45 : decode cX1_lastThree 45 = .ok (.isub, 1) := by decide +kernel
theorem dX1_lastThree_46 : decode cX1_lastThree 46 = .ok (.iload 5, 2) := by decide +kernel
theorem dX1_lastThree_48 : decode cX1_lastThree 48 = .ok (.isub, 1) := by decide +kernel
theorem dX1_lastThree_49 : decode cX1_lastThree 49 = .ok (.aload_n 0, 1) := by decide +kernel
theorem dX1_lastThree_50 : decode cX1_lastThree 50 = .ok (.getfield 7, 3) := by decide +kernel
theorem dX1_lastThree_53 : decode cX1_lastThree 53 = .ok (.iconst 4, 1) := by decide +kernel
theorem dX1_lastThree_54 : decode cX1_lastThree 54 = .ok (.iaload, 1) := by decide +kernel
theorem dX1_lastThree_55 : decode cX1_lastThree 55 = .ok (.imul, 1) := by decide +kernel
theorem dX1_lastThree_56 : decode cX1_lastThree 56 = .ok (.iadd, 1) := by decide +kernel
theorem dX1_lastThree_57 : decode cX1_lastThree 57 = .ok (.iload_n 2, 1) := by decide +kernel
theorem dX1_lastThree_58 : decode cX1_lastThree 58 = .ok (.if_icmp .ne 6, 3) := by decide +kernel
theorem dX1_lastThree_61 : decode cX1_lastThree 61 = .ok (.iinc 3 1, 3) := by decide +kernel
theorem dX1_lastThree_64 : decode cX1_lastThree 64 = .ok (.iinc 5 1, 3) := by decide +kernel
theorem dX1_lastThree_67 : decode cX1_lastThree 67 = .ok (.goto (-53), 3) := by decide +kernel
theorem dX1_lastThree_70 : decode cX1_lastThree 70 = .ok (.iinc 4 1, 3) := by decide +kernel
theorem dX1_lastThree_73 : decode cX1_lastThree 73 = .ok (.goto (-68), 3) := by decide +kernel
theorem dX1_lastThree_76 : decode cX1_lastThree 76 = .ok (.iload_n 3, 1) := by decide +kernel
theorem dX1_lastThree_77 : decode cX1_lastThree 77 = .ok (.ireturn, 1) := by decide +kernel
abbrev cX1_fewest : ByteArray := prog_3_method_23_code
def yX1_fewest : MethodName := ⟨RX1, "fewest", "(I)I"⟩
theorem dX1_fewest_0 : decode cX1_fewest 0 = .ok (.aload_n 0, 1) := by decide +kernel
theorem dX1_fewest_1 : decode cX1_fewest 1 = .ok (.iload_n 1, 1) := by decide +kernel
theorem dX1_fewest_2 : decode cX1_fewest 2 = .ok (.invokevirtual 48, 3) := by decide +kernel
theorem dX1_fewest_5 : decode cX1_fewest 5 = .ok (.ifCond .eq 5, 3) := by decide +kernel
theorem dX1_fewest_8 : decode cX1_fewest 8 = .ok (.iconst (-1), 1) := by decide +kernel
theorem dX1_fewest_9 : decode cX1_fewest 9 = .ok (.ireturn, 1) := by decide +kernel
theorem dX1_fewest_10 : decode cX1_fewest 10 = .ok (.aload_n 0, 1) := by decide +kernel
theorem dX1_fewest_11 : decode cX1_fewest 11 = .ok (.iload_n 1, 1) := by decide +kernel
theorem dX1_fewest_12 : decode cX1_fewest 12 = .ok (.invokevirtual 41, 3) := by decide +kernel
theorem dX1_fewest_15 : decode cX1_fewest 15 = .ok (.ifCond .ne 6, 3) := by decide +kernel
theorem dX1_fewest_18 : decode cX1_fewest 18 = .ok (.bipush (-2), 2) := by decide +kernel
theorem dX1_fewest_20 : decode cX1_fewest 20 = .ok (.ireturn, 1) := by decide +kernel
theorem dX1_fewest_21 : decode cX1_fewest 21 = .ok (.aload_n 0, 1) := by decide +kernel
theorem dX1_fewest_22 : decode cX1_fewest 22 = .ok (.invokevirtual 51, 3) := by decide +kernel
theorem dX1_fewest_25 : decode cX1_fewest 25 = .ok (.aload_n 0, 1) := by decide +kernel
theorem dX1_fewest_26 : decode cX1_fewest 26 = .ok (.iload_n 1, 1) := by decide +kernel
theorem dX1_fewest_27 : decode cX1_fewest 27 = .ok (.invokevirtual 68, 3) := by decide +kernel
theorem dX1_fewest_30 : decode cX1_fewest 30 = .ok (.aload_n 0, 1) := by decide +kernel
theorem dX1_fewest_31 : decode cX1_fewest 31 = .ok (.getfield 19, 3) := by decide +kernel
theorem dX1_fewest_34 : decode cX1_fewest 34 = .ok (.iload_n 1, 1) := by decide +kernel
theorem dX1_fewest_35 : decode cX1_fewest 35 = .ok (.iaload, 1) := by decide +kernel
theorem dX1_fewest_36 : decode cX1_fewest 36 = .ok (.ireturn, 1) := by decide +kernel
abbrev cX1_sums : ByteArray := prog_3_method_21_code
def yX1_sums : MethodName := ⟨RX1, "sums", "(I)V"⟩
theorem dX1_sums_0 : decode cX1_sums 0 = .ok (.aload_n 0, 1) := by decide +kernel
theorem dX1_sums_1 : decode cX1_sums 1 = .ok (.iload_n 1, 1) := by decide +kernel
theorem dX1_sums_2 : decode cX1_sums 2 = .ok (.invokevirtual 57, 3) := by decide +kernel
theorem dX1_sums_5 : decode cX1_sums 5 = .ok (.istore_n 2, 1) := by decide +kernel
theorem dX1_sums_6 : decode cX1_sums 6 = .ok (.iconst 0, 1) := by decide +kernel
theorem dX1_sums_7 : decode cX1_sums 7 = .ok (.istore_n 3, 1) := by decide +kernel
theorem dX1_sums_8 : decode cX1_sums 8 = .ok (.iload_n 3, 1) := by decide +kernel
theorem dX1_sums_9 : decode cX1_sums 9 = .ok (.iload_n 2, 1) := by decide +kernel
theorem dX1_sums_10 : decode cX1_sums 10 = .ok (.if_icmp .ge 53, 3) := by decide +kernel
theorem dX1_sums_13 : decode cX1_sums 13 = .ok (.aload_n 0, 1) := by decide +kernel
theorem dX1_sums_14 : decode cX1_sums 14 = .ok (.iload_n 1, 1) := by decide +kernel
theorem dX1_sums_15 : decode cX1_sums 15 = .ok (.iload_n 3, 1) := by decide +kernel
theorem dX1_sums_16 : decode cX1_sums 16 = .ok (.invokevirtual 61, 3) := by decide +kernel
theorem dX1_sums_19 : decode cX1_sums 19 = .ok (.istore 4, 2) := by decide +kernel
theorem dX1_sums_21 : decode cX1_sums 21 = .ok (.aload_n 0, 1) := by decide +kernel
theorem dX1_sums_22 : decode cX1_sums 22 = .ok (.getfield 16, 3) := by decide +kernel
theorem dX1_sums_25 : decode cX1_sums 25 = .ok (.iload 4, 2) := by decide +kernel
theorem dX1_sums_27 : decode cX1_sums 27 = .ok (.iload 4, 2) := by decide +kernel
theorem dX1_sums_29 : decode cX1_sums 29 = .ok (.ifCond .ne 7, 3) := by decide +kernel
theorem dX1_sums_32 : decode cX1_sums 32 = .ok (.iconst 1, 1) := by decide +kernel
theorem dX1_sums_33 : decode cX1_sums 33 = .ok (.goto 4, 3) := by decide +kernel
theorem dX1_sums_36 : decode cX1_sums 36 = .ok (.iconst 0, 1) := by decide +kernel
theorem dX1_sums_37 : decode cX1_sums 37 = .ok (.iastore, 1) := by decide +kernel
theorem dX1_sums_38 : decode cX1_sums 38 = .ok (.aload_n 0, 1) := by decide +kernel
theorem dX1_sums_39 : decode cX1_sums 39 = .ok (.getfield 19, 3) := by decide +kernel
theorem dX1_sums_42 : decode cX1_sums 42 = .ok (.iload 4, 2) := by decide +kernel
theorem dX1_sums_44 : decode cX1_sums 44 = .ok (.iload 4, 2) := by decide +kernel
theorem dX1_sums_46 : decode cX1_sums 46 = .ok (.ifCond .ne 7, 3) := by decide +kernel
theorem dX1_sums_49 : decode cX1_sums 49 = .ok (.iconst 0, 1) := by decide +kernel
theorem dX1_sums_50 : decode cX1_sums 50 = .ok (.goto 6, 3) := by decide +kernel
theorem dX1_sums_53 : decode cX1_sums 53 = .ok (.sipush 1000, 3) := by decide +kernel
theorem dX1_sums_56 : decode cX1_sums 56 = .ok (.iastore, 1) := by decide +kernel
theorem dX1_sums_57 : decode cX1_sums 57 = .ok (.iinc 3 1, 3) := by decide +kernel
theorem dX1_sums_60 : decode cX1_sums 60 = .ok (.goto (-52), 3) := by decide +kernel
theorem dX1_sums_63 : decode cX1_sums 63 = .ok (.iconst 0, 1) := by decide +kernel
theorem dX1_sums_64 : decode cX1_sums 64 = .ok (.istore_n 3, 1) := by decide +kernel
theorem dX1_sums_65 : decode cX1_sums 65 = .ok (.iload_n 3, 1) := by decide +kernel
theorem dX1_sums_66 : decode cX1_sums 66 = .ok (.aload_n 0, 1) := by decide +kernel
theorem dX1_sums_67 : decode cX1_sums 67 = .ok (.getfield 30, 3) := by decide +kernel
theorem dX1_sums_70 : decode cX1_sums 70 = .ok (.if_icmp .ge 42, 3) := by decide +kernel
theorem dX1_sums_73 : decode cX1_sums 73 = .ok (.iload_n 3, 1) := by decide +kernel
theorem dX1_sums_74 : decode cX1_sums 74 = .ok (.sipush 2000, 3) := by decide +kernel
theorem dX1_sums_77 : decode cX1_sums 77 = .ok (.if_icmp .ge 35, 3) := by decide +kernel
theorem dX1_sums_80 : decode cX1_sums 80 = .ok (.aload_n 0, 1) := by decide +kernel
theorem dX1_sums_81 : decode cX1_sums 81 = .ok (.aload_n 0, 1) := by decide +kernel
theorem dX1_sums_82 : decode cX1_sums 82 = .ok (.getfield 13, 3) := by decide +kernel
theorem dX1_sums_85 : decode cX1_sums 85 = .ok (.iload_n 3, 1) := by decide +kernel
theorem dX1_sums_86 : decode cX1_sums 86 = .ok (.iaload, 1) := by decide +kernel
theorem dX1_sums_87 : decode cX1_sums 87 = .ok (.iload_n 1, 1) := by decide +kernel
theorem dX1_sums_88 : decode cX1_sums 88 = .ok (.invokevirtual 34, 3) := by decide +kernel
theorem dX1_sums_91 : decode cX1_sums 91 = .ok (.ifCond .eq 15, 3) := by decide +kernel
theorem dX1_sums_94 : decode cX1_sums 94 = .ok (.aload_n 0, 1) := by decide +kernel
theorem dX1_sums_95 : decode cX1_sums 95 = .ok (.aload_n 0, 1) := by decide +kernel
theorem dX1_sums_96 : decode cX1_sums 96 = .ok (.getfield 13, 3) := by decide +kernel
theorem dX1_sums_99 : decode cX1_sums 99 = .ok (.iload_n 3, 1) := by decide +kernel
theorem dX1_sums_100 : decode cX1_sums 100 = .ok (.iaload, 1) := by decide +kernel
theorem dX1_sums_101 : decode cX1_sums 101 = .ok (.iload_n 1, 1) := by decide +kernel
theorem dX1_sums_102 : decode cX1_sums 102 = .ok (.iload_n 2, 1) := by decide +kernel
theorem dX1_sums_103 : decode cX1_sums 103 = .ok (.invokevirtual 64, 3) := by decide +kernel
theorem dX1_sums_106 : decode cX1_sums 106 = .ok (.iinc 3 1, 3) := by decide +kernel
theorem dX1_sums_109 : decode cX1_sums 109 = .ok (.goto (-44), 3) := by decide +kernel
theorem dX1_sums_112 : decode cX1_sums 112 = .ok (.return_, 1) := by decide +kernel
abbrev cX1_parts : ByteArray := prog_3_method_19_code
def yX1_parts : MethodName := ⟨RX1, "parts", "(I)I"⟩
theorem dX1_parts_0 : decode cX1_parts 0 = .ok (.iconst 1, 1) := by decide +kernel
theorem dX1_parts_1 : decode cX1_parts 1 = .ok (.istore_n 2, 1) := by decide +kernel
theorem dX1_parts_2 : decode cX1_parts 2 = .ok (.iconst 0, 1) := by decide +kernel
theorem dX1_parts_3 : decode cX1_parts 3 = .ok (.istore_n 3, 1) := by decide +kernel
theorem dX1_parts_4 : decode cX1_parts 4 = .ok (.iload_n 3, 1) := by decide +kernel
theorem dX1_parts_5 : decode cX1_parts 5 = .ok (.iconst 5, 1) := by decide +kernel
theorem dX1_parts_6 : decode cX1_parts 6 = .ok (.if_icmp .ge 20, 3) := by decide +kernel
theorem dX1_parts_9 : decode cX1_parts 9 = .ok (.iload_n 2, 1) := by decide +kernel
theorem dX1_parts_10 : decode cX1_parts 10 = .ok (.aload_n 0, 1) := by decide +kernel
theorem dX1_parts_11 : decode cX1_parts 11 = .ok (.iload_n 1, 1) := by decide +kernel
theorem dX1_parts_12 : decode cX1_parts 12 = .ok (.iload_n 3, 1) := by decide +kernel
theorem dX1_parts_13 : decode cX1_parts 13 = .ok (.invokevirtual 26, 3) := by decide +kernel
theorem dX1_parts_16 : decode cX1_parts 16 = .ok (.iconst 1, 1) := by decide +kernel
theorem dX1_parts_17 : decode cX1_parts 17 = .ok (.iadd, 1) := by decide +kernel
theorem dX1_parts_18 : decode cX1_parts 18 = .ok (.imul, 1) := by decide +kernel
theorem dX1_parts_19 : decode cX1_parts 19 = .ok (.istore_n 2, 1) := by decide +kernel
theorem dX1_parts_20 : decode cX1_parts 20 = .ok (.iinc 3 1, 3) := by decide +kernel
theorem dX1_parts_23 : decode cX1_parts 23 = .ok (.goto (-19), 3) := by decide +kernel
theorem dX1_parts_26 : decode cX1_parts 26 = .ok (.iload_n 2, 1) := by decide +kernel
theorem dX1_parts_27 : decode cX1_parts 27 = .ok (.ireturn, 1) := by decide +kernel
abbrev cX1_under : ByteArray := prog_3_method_20_code
def yX1_under : MethodName := ⟨RX1, "under", "(II)I"⟩
theorem dX1_under_0 : decode cX1_under 0 = .ok (.iload_n 2, 1) := by decide +kernel
theorem dX1_under_1 : decode cX1_under 1 = .ok (.istore_n 3, 1) := by decide +kernel
theorem dX1_under_2 : decode cX1_under 2 = .ok (.iconst 0, 1) := by decide +kernel
theorem dX1_under_3 : decode cX1_under 3 = .ok (.istore 4, 2) := by decide +kernel
theorem dX1_under_5 : decode cX1_under 5 = .ok (.iconst 1, 1) := by decide +kernel
theorem dX1_under_6 : decode cX1_under 6 = .ok (.istore 5, 2) := by decide +kernel
theorem dX1_under_8 : decode cX1_under 8 = .ok (.iconst 4, 1) := by decide +kernel
theorem dX1_under_9 : decode cX1_under 9 = .ok (.istore 6, 2) := by decide +kernel
theorem dX1_under_11 : decode cX1_under 11 = .ok (.iload 6, 2) := by decide +kernel
theorem dX1_under_13 : decode cX1_under 13 = .ok (.ifCond .lt 53, 3) := by decide +kernel
theorem dX1_under_16 : decode cX1_under 16 = .ok (.aload_n 0, 1) := by decide +kernel
theorem dX1_under_17 : decode cX1_under 17 = .ok (.iload_n 1, 1) := by decide +kernel
theorem dX1_under_18 : decode cX1_under 18 = .ok (.iload 6, 2) := by decide +kernel
theorem dX1_under_20 : decode cX1_under 20 = .ok (.invokevirtual 26, 3) := by decide +kernel
theorem dX1_under_23 : decode cX1_under 23 = .ok (.iconst 1, 1) := by decide +kernel
theorem dX1_under_24 : decode cX1_under 24 = .ok (.iadd, 1) := by decide +kernel
theorem dX1_under_25 : decode cX1_under 25 = .ok (.istore 7, 2) := by decide +kernel
theorem dX1_under_27 : decode cX1_under 27 = .ok (.iload 7, 2) := by decide +kernel
theorem dX1_under_29 : decode cX1_under 29 = .ok (.iconst 1, 1) := by decide +kernel
theorem dX1_under_30 : decode cX1_under 30 = .ok (.if_icmp .ge 6, 3) := by decide +kernel
theorem dX1_under_33 : decode cX1_under 33 = .ok (.iconst 1, 1) := by decide +kernel
theorem dX1_under_34 : decode cX1_under 34 = .ok (.istore 7, 2) := by decide +kernel
theorem dX1_under_36 : decode cX1_under 36 = .ok (.iload 4, 2) := by decide +kernel
theorem dX1_under_38 : decode cX1_under 38 = .ok (.iload_n 3, 1) := by decide +kernel
theorem dX1_under_39 : decode cX1_under 39 = .ok (.iload 7, 2) := by decide +kernel
theorem dX1_under_41 : decode cX1_under 41 = .ok (.irem, 1) := by decide +kernel
theorem dX1_under_42 : decode cX1_under 42 = .ok (.iload 5, 2) := by decide +kernel
theorem dX1_under_44 : decode cX1_under 44 = .ok (.imul, 1) := by decide +kernel
theorem dX1_under_45 : decode cX1_under 45 = .ok (.iadd, 1) := by decide +kernel
theorem dX1_under_46 : decode cX1_under 46 = .ok (.istore 4, 2) := by decide +kernel
theorem dX1_under_48 : decode cX1_under 48 = .ok (.iload_n 3, 1) := by decide +kernel
theorem dX1_under_49 : decode cX1_under 49 = .ok (.iload 7, 2) := by decide +kernel
theorem dX1_under_51 : decode cX1_under 51 = .ok (.idiv, 1) := by decide +kernel
theorem dX1_under_52 : decode cX1_under 52 = .ok (.istore_n 3, 1) := by decide +kernel
theorem dX1_under_53 : decode cX1_under 53 = .ok (.bipush 7, 2) := by decide +kernel
theorem dX1_under_55 : decode cX1_under 55 = .ok (.iload 5, 2) := by decide +kernel
theorem dX1_under_57 : decode cX1_under 57 = .ok (.imul, 1) := by decide +kernel
theorem dX1_under_58 : decode cX1_under 58 = .ok (.istore 5, 2) := by decide +kernel
theorem dX1_under_60 : decode cX1_under 60 = .ok (.iinc 6 (-1), 3) := by decide +kernel
theorem dX1_under_63 : decode cX1_under 63 = .ok (.goto (-52), 3) := by decide +kernel
theorem dX1_under_66 : decode cX1_under 66 = .ok (.iload 4, 2) := by decide +kernel
theorem dX1_under_68 : decode cX1_under 68 = .ok (.ireturn, 1) := by decide +kernel
abbrev cX1_spread : ByteArray := prog_3_method_22_code
def yX1_spread : MethodName := ⟨RX1, "spread", "(III)V"⟩
theorem dX1_spread_0 : decode cX1_spread 0 = .ok (.iconst 0, 1) := by decide +kernel
theorem dX1_spread_1 : decode cX1_spread 1 = .ok (.istore 4, 2) := by decide +kernel
theorem dX1_spread_3 : decode cX1_spread 3 = .ok (.iload 4, 2) := by decide +kernel
theorem dX1_spread_5 : decode cX1_spread 5 = .ok (.iload_n 3, 1) := by decide +kernel
theorem dX1_spread_6 : decode cX1_spread 6 = .ok (.if_icmp .ge 87, 3) := by decide +kernel
theorem dX1_spread_9 : decode cX1_spread 9 = .ok (.aload_n 0, 1) := by decide +kernel
theorem dX1_spread_10 : decode cX1_spread 10 = .ok (.iload_n 2, 1) := by decide +kernel
theorem dX1_spread_11 : decode cX1_spread 11 = .ok (.iload 4, 2) := by decide +kernel
theorem dX1_spread_13 : decode cX1_spread 13 = .ok (.invokevirtual 61, 3) := by decide +kernel
theorem dX1_spread_16 : decode cX1_spread 16 = .ok (.istore 5, 2) := by decide +kernel
theorem dX1_spread_18 : decode cX1_spread 18 = .ok (.iload 5, 2) := by decide +kernel
theorem dX1_spread_20 : decode cX1_spread 20 = .ok (.iload_n 1, 1) := by decide +kernel
theorem dX1_spread_21 : decode cX1_spread 21 = .ok (.if_icmp .lt 66, 3) := by decide +kernel
theorem dX1_spread_24 : decode cX1_spread 24 = .ok (.aload_n 0, 1) := by decide +kernel
theorem dX1_spread_25 : decode cX1_spread 25 = .ok (.iload_n 1, 1) := by decide +kernel
theorem dX1_spread_26 : decode cX1_spread 26 = .ok (.iload 5, 2) := by decide +kernel
theorem dX1_spread_28 : decode cX1_spread 28 = .ok (.invokevirtual 34, 3) := by decide +kernel
theorem dX1_spread_31 : decode cX1_spread 31 = .ok (.ifCond .eq 56, 3) := by decide +kernel
theorem dX1_spread_34 : decode cX1_spread 34 = .ok (.aload_n 0, 1) := by decide +kernel
theorem dX1_spread_35 : decode cX1_spread 35 = .ok (.getfield 16, 3) := by decide +kernel
theorem dX1_spread_38 : decode cX1_spread 38 = .ok (.iload 5, 2) := by decide +kernel
theorem dX1_spread_40 : decode cX1_spread 40 = .ok (.dup2, 1) := by decide +kernel
theorem dX1_spread_41 : decode cX1_spread 41 = .ok (.iaload, 1) := by decide +kernel
theorem dX1_spread_42 : decode cX1_spread 42 = .ok (.aload_n 0, 1) := by decide +kernel
theorem dX1_spread_43 : decode cX1_spread 43 = .ok (.getfield 16, 3) := by decide +kernel
theorem dX1_spread_46 : decode cX1_spread 46 = .ok (.iload 5, 2) := by decide +kernel
theorem dX1_spread_48 : decode cX1_spread 48 = .ok (.iload_n 1, 1) := by decide +kernel
theorem dX1_spread_49 : decode cX1_spread 49 = .ok (.isub, 1) := by decide +kernel
theorem dX1_spread_50 : decode cX1_spread 50 = .ok (.iaload, 1) := by decide +kernel
theorem dX1_spread_51 : decode cX1_spread 51 = .ok (.iadd, 1) := by decide +kernel
theorem dX1_spread_52 : decode cX1_spread 52 = .ok (.iastore, 1) := by decide +kernel
theorem dX1_spread_53 : decode cX1_spread 53 = .ok (.aload_n 0, 1) := by decide +kernel
theorem dX1_spread_54 : decode cX1_spread 54 = .ok (.getfield 19, 3) := by decide +kernel
theorem dX1_spread_57 : decode cX1_spread 57 = .ok (.iload 5, 2) := by decide +kernel
theorem dX1_spread_59 : decode cX1_spread 59 = .ok (.iload_n 1, 1) := by decide +kernel
theorem dX1_spread_60 : decode cX1_spread 60 = .ok (.isub, 1) := by decide +kernel
theorem dX1_spread_61 : decode cX1_spread 61 = .ok (.iaload, 1) := by decide +kernel
theorem dX1_spread_62 : decode cX1_spread 62 = .ok (.iconst 1, 1) := by decide +kernel
theorem dX1_spread_63 : decode cX1_spread 63 = .ok (.iadd, 1) := by decide +kernel
theorem dX1_spread_64 : decode cX1_spread 64 = .ok (.istore 6, 2) := by decide +kernel
theorem dX1_spread_66 : decode cX1_spread 66 = .ok (.iload 6, 2) := by decide +kernel
theorem dX1_spread_68 : decode cX1_spread 68 = .ok (.aload_n 0, 1) := by decide +kernel
theorem dX1_spread_69 : decode cX1_spread 69 = .ok (.getfield 19, 3) := by decide +kernel
theorem dX1_spread_72 : decode cX1_spread 72 = .ok (.iload 5, 2) := by decide +kernel
theorem dX1_spread_74 : decode cX1_spread 74 = .ok (.iaload, 1) := by decide +kernel
theorem dX1_spread_75 : decode cX1_spread 75 = .ok (.if_icmp .ge 12, 3) := by decide +kernel
theorem dX1_spread_78 : decode cX1_spread 78 = .ok (.aload_n 0, 1) := by decide +kernel
theorem dX1_spread_79 : decode cX1_spread 79 = .ok (.getfield 19, 3) := by decide +kernel
theorem dX1_spread_82 : decode cX1_spread 82 = .ok (.iload 5, 2) := by decide +kernel
theorem dX1_spread_84 : decode cX1_spread 84 = .ok (.iload 6, 2) := by decide +kernel
theorem dX1_spread_86 : decode cX1_spread 86 = .ok (.iastore, 1) := by decide +kernel
theorem dX1_spread_87 : decode cX1_spread 87 = .ok (.iinc 4 1, 3) := by decide +kernel
theorem dX1_spread_90 : decode cX1_spread 90 = .ok (.goto (-87), 3) := by decide +kernel
theorem dX1_spread_93 : decode cX1_spread 93 = .ok (.return_, 1) := by decide +kernel
abbrev cX1_ways : ByteArray := prog_3_method_24_code
def yX1_ways : MethodName := ⟨RX1, "ways", "(I)I"⟩
theorem dX1_ways_0 : decode cX1_ways 0 = .ok (.aload_n 0, 1) := by decide +kernel
theorem dX1_ways_1 : decode cX1_ways 1 = .ok (.iload_n 1, 1) := by decide +kernel
theorem dX1_ways_2 : decode cX1_ways 2 = .ok (.invokevirtual 48, 3) := by decide +kernel
theorem dX1_ways_5 : decode cX1_ways 5 = .ok (.ifCond .eq 5, 3) := by decide +kernel
theorem dX1_ways_8 : decode cX1_ways 8 = .ok (.iconst (-1), 1) := by decide +kernel
theorem dX1_ways_9 : decode cX1_ways 9 = .ok (.ireturn, 1) := by decide +kernel
theorem dX1_ways_10 : decode cX1_ways 10 = .ok (.aload_n 0, 1) := by decide +kernel
theorem dX1_ways_11 : decode cX1_ways 11 = .ok (.iload_n 1, 1) := by decide +kernel
theorem dX1_ways_12 : decode cX1_ways 12 = .ok (.invokevirtual 41, 3) := by decide +kernel
theorem dX1_ways_15 : decode cX1_ways 15 = .ok (.ifCond .ne 6, 3) := by decide +kernel
theorem dX1_ways_18 : decode cX1_ways 18 = .ok (.bipush (-2), 2) := by decide +kernel
theorem dX1_ways_20 : decode cX1_ways 20 = .ok (.ireturn, 1) := by decide +kernel
theorem dX1_ways_21 : decode cX1_ways 21 = .ok (.aload_n 0, 1) := by decide +kernel
theorem dX1_ways_22 : decode cX1_ways 22 = .ok (.invokevirtual 51, 3) := by decide +kernel
theorem dX1_ways_25 : decode cX1_ways 25 = .ok (.aload_n 0, 1) := by decide +kernel
theorem dX1_ways_26 : decode cX1_ways 26 = .ok (.iload_n 1, 1) := by decide +kernel
theorem dX1_ways_27 : decode cX1_ways 27 = .ok (.invokevirtual 68, 3) := by decide +kernel
theorem dX1_ways_30 : decode cX1_ways 30 = .ok (.aload_n 0, 1) := by decide +kernel
theorem dX1_ways_31 : decode cX1_ways 31 = .ok (.getfield 16, 3) := by decide +kernel
theorem dX1_ways_34 : decode cX1_ways 34 = .ok (.iload_n 1, 1) := by decide +kernel
theorem dX1_ways_35 : decode cX1_ways 35 = .ok (.iaload, 1) := by decide +kernel
theorem dX1_ways_36 : decode cX1_ways 36 = .ok (.ireturn, 1) := by decide +kernel
abbrev cX1_inside : ByteArray := prog_3_method_25_code
def yX1_inside : MethodName := ⟨RX1, "inside", "(I)I"⟩
theorem dX1_inside_0 : decode cX1_inside 0 = .ok (.aload_n 0, 1) := by decide +kernel
theorem dX1_inside_1 : decode cX1_inside 1 = .ok (.iload_n 1, 1) := by decide +kernel
theorem dX1_inside_2 : decode cX1_inside 2 = .ok (.invokevirtual 48, 3) := by decide +kernel
theorem dX1_inside_5 : decode cX1_inside 5 = .ok (.ifCond .eq 5, 3) := by decide +kernel
theorem dX1_inside_8 : decode cX1_inside 8 = .ok (.iconst (-1), 1) := by decide +kernel
theorem dX1_inside_9 : decode cX1_inside 9 = .ok (.ireturn, 1) := by decide +kernel
theorem dX1_inside_10 : decode cX1_inside 10 = .ok (.aload_n 0, 1) := by decide +kernel
theorem dX1_inside_11 : decode cX1_inside 11 = .ok (.invokevirtual 51, 3) := by decide +kernel
theorem dX1_inside_14 : decode cX1_inside 14 = .ok (.iconst 0, 1) := by decide +kernel
theorem dX1_inside_15 : decode cX1_inside 15 = .ok (.istore_n 2, 1) := by decide +kernel
theorem dX1_inside_16 : decode cX1_inside 16 = .ok (.iload_n 2, 1) := by decide +kernel
theorem dX1_inside_17 : decode cX1_inside 17 = .ok (.aload_n 0, 1) := by decide +kernel
theorem dX1_inside_18 : decode cX1_inside 18 = .ok (.getfield 30, 3) := by decide +kernel
theorem dX1_inside_21 : decode cX1_inside 21 = .ok (.if_icmp .ge 37, 3) := by decide +kernel
theorem dX1_inside_24 : decode cX1_inside 24 = .ok (.iload_n 2, 1) := by decide +kernel
theorem dX1_inside_25 : decode cX1_inside 25 = .ok (.sipush 2000, 3) := by decide +kernel
theorem dX1_inside_28 : decode cX1_inside 28 = .ok (.if_icmp .ge 30, 3) := by decide +kernel
theorem dX1_inside_31 : decode cX1_inside 31 = .ok (.aload_n 0, 1) := by decide +kernel
theorem dX1_inside_32 : decode cX1_inside 32 = .ok (.aload_n 0, 1) := by decide +kernel
theorem dX1_inside_33 : decode cX1_inside 33 = .ok (.getfield 13, 3) := by decide +kernel
theorem dX1_inside_36 : decode cX1_inside 36 = .ok (.iload_n 2, 1) := by decide +kernel
theorem dX1_inside_37 : decode cX1_inside 37 = .ok (.iaload, 1) := by decide +kernel
theorem dX1_inside_38 : decode cX1_inside 38 = .ok (.iload_n 1, 1) := by decide +kernel
theorem dX1_inside_39 : decode cX1_inside 39 = .ok (.invokevirtual 34, 3) := by decide +kernel
theorem dX1_inside_42 : decode cX1_inside 42 = .ok (.ifCond .eq 10, 3) := by decide +kernel
theorem dX1_inside_45 : decode cX1_inside 45 = .ok (.aload_n 0, 1) := by decide +kernel
theorem dX1_inside_46 : decode cX1_inside 46 = .ok (.getfield 13, 3) := by decide +kernel
theorem dX1_inside_49 : decode cX1_inside 49 = .ok (.iload_n 2, 1) := by decide +kernel
theorem dX1_inside_50 : decode cX1_inside 50 = .ok (.iaload, 1) := by decide +kernel
theorem dX1_inside_51 : decode cX1_inside 51 = .ok (.ireturn, 1) := by decide +kernel
theorem dX1_inside_52 : decode cX1_inside 52 = .ok (.iinc 2 1, 3) := by decide +kernel
theorem dX1_inside_55 : decode cX1_inside 55 = .ok (.goto (-39), 3) := by decide +kernel
theorem dX1_inside_58 : decode cX1_inside 58 = .ok (.bipush (-2), 2) := by decide +kernel
theorem dX1_inside_60 : decode cX1_inside 60 = .ok (.ireturn, 1) := by decide +kernel
abbrev cX1_small : ByteArray := prog_3_method_26_code
def yX1_small : MethodName := ⟨RX1, "small", "()I"⟩
theorem dX1_small_0 : decode cX1_small 0 = .ok (.aload_n 0, 1) := by decide +kernel
theorem dX1_small_1 : decode cX1_small 1 = .ok (.invokevirtual 51, 3) := by decide +kernel
theorem dX1_small_4 : decode cX1_small 4 = .ok (.aload_n 0, 1) := by decide +kernel
theorem dX1_small_5 : decode cX1_small 5 = .ok (.getfield 38, 3) := by decide +kernel
theorem dX1_small_8 : decode cX1_small 8 = .ok (.ireturn, 1) := by decide +kernel
theorem q26 : (Jvm.Cond.initialized "HilbertBasisModel") ∈ lw_all := lw_g (lw_at lw_m1 2 rfl) rfl
theorem q182 : (Jvm.Cond.instantiable "HilbertBasisModel" (7 : Nat)) ∈ lw_all := lw_g (lw_at lw_m1 158 rfl) rfl
theorem q184 : (Jvm.Cond.instanceMethod ({ cls := "HilbertBasisModel", name := "<init>", desc := "()V" } : Jvm.MethodName)) ∈ lw_all := lw_g (lw_at lw_m1 160 rfl) rfl
theorem q185 : (Jvm.Cond.code ({ cls := "HilbertBasisModel", name := "<init>", desc := "()V" } : Jvm.MethodName) prog_3_method_1_code (1 : Nat) (Option.none : Option Jvm.ClassFile.FieldType)) ∈ lw_all := lw_g (lw_at lw_m1 161 rfl) rfl
theorem q186 : (Jvm.Cond.methodLink "HilbertBasisModel" (1 : Nat) ({ cls := "java/lang/Object", name := "<init>", desc := "()V" } : Jvm.MethodName)) ∈ lw_all := lw_g (lw_at lw_m1 162 rfl) rfl
theorem q187 : (Jvm.Cond.fieldLink "HilbertBasisModel" (7 : Nat) "HilbertBasisModel" "weights" "[I") ∈ lw_all := lw_g (lw_at lw_m1 163 rfl) rfl
theorem q188 : (Jvm.Cond.fieldLink "HilbertBasisModel" (22 : Nat) "HilbertBasisModel" "ready" "Z") ∈ lw_all := lw_g (lw_at lw_m1 164 rfl) rfl
theorem q189 : (Jvm.Cond.fieldLink "HilbertBasisModel" (30 : Nat) "HilbertBasisModel" "count" "I") ∈ lw_all := lw_g (lw_at lw_m1 165 rfl) rfl
theorem q190 : (Jvm.Cond.fieldLink "HilbertBasisModel" (38 : Nat) "HilbertBasisModel" "balances" "I") ∈ lw_all := lw_g (lw_at lw_m1 166 rfl) rfl
theorem q191 : (Jvm.Cond.fieldLink "HilbertBasisModel" (13 : Nat) "HilbertBasisModel" "codes" "[I") ∈ lw_all := lw_g (lw_at lw_m1 167 rfl) rfl
theorem q192 : (Jvm.Cond.fieldLink "HilbertBasisModel" (16 : Nat) "HilbertBasisModel" "many" "[I") ∈ lw_all := lw_g (lw_at lw_m1 168 rfl) rfl
theorem q193 : (Jvm.Cond.fieldLink "HilbertBasisModel" (19 : Nat) "HilbertBasisModel" "few" "[I") ∈ lw_all := lw_g (lw_at lw_m1 169 rfl) rfl
theorem q194 : (Jvm.Cond.lays "HilbertBasisModel" "HilbertBasisModel" "weights" "[I") ∈ lw_all := lw_g (lw_at lw_m1 170 rfl) rfl
theorem q195 : (Jvm.Cond.soleField "HilbertBasisModel" "weights") ∈ lw_all := lw_g (lw_at lw_m1 171 rfl) rfl
theorem q196 : (Jvm.Cond.lays "HilbertBasisModel" "HilbertBasisModel" "ready" "Z") ∈ lw_all := lw_g (lw_at lw_m1 172 rfl) rfl
theorem q197 : (Jvm.Cond.soleField "HilbertBasisModel" "ready") ∈ lw_all := lw_g (lw_at lw_m1 173 rfl) rfl
theorem q198 : (Jvm.Cond.lays "HilbertBasisModel" "HilbertBasisModel" "count" "I") ∈ lw_all := lw_g (lw_at lw_m1 174 rfl) rfl
theorem q199 : (Jvm.Cond.soleField "HilbertBasisModel" "count") ∈ lw_all := lw_g (lw_at lw_m1 175 rfl) rfl
theorem q200 : (Jvm.Cond.lays "HilbertBasisModel" "HilbertBasisModel" "balances" "I") ∈ lw_all := lw_g (lw_at lw_m1 176 rfl) rfl
theorem q201 : (Jvm.Cond.soleField "HilbertBasisModel" "balances") ∈ lw_all := lw_g (lw_at lw_m1 177 rfl) rfl
theorem q202 : (Jvm.Cond.lays "HilbertBasisModel" "HilbertBasisModel" "codes" "[I") ∈ lw_all := lw_g (lw_at lw_m1 178 rfl) rfl
theorem q203 : (Jvm.Cond.soleField "HilbertBasisModel" "codes") ∈ lw_all := lw_g (lw_at lw_m1 179 rfl) rfl
theorem q204 : (Jvm.Cond.lays "HilbertBasisModel" "HilbertBasisModel" "many" "[I") ∈ lw_all := lw_g (lw_at lw_m1 180 rfl) rfl
theorem q205 : (Jvm.Cond.soleField "HilbertBasisModel" "many") ∈ lw_all := lw_g (lw_at lw_m1 181 rfl) rfl
theorem q206 : (Jvm.Cond.lays "HilbertBasisModel" "HilbertBasisModel" "few" "[I") ∈ lw_all := lw_g (lw_at lw_m1 182 rfl) rfl
theorem q207 : (Jvm.Cond.soleField "HilbertBasisModel" "few") ∈ lw_all := lw_g (lw_at lw_m1 183 rfl) rfl
theorem q208 : (Jvm.Cond.superclass "HilbertBasisModel" "java/lang/Object") ∈ lw_all := lw_g (lw_at lw_m1 184 rfl) rfl
theorem q210 : (Jvm.Cond.instanceMethod ({ cls := "HilbertBasisModel", name := "set", desc := "(II)I" } : Jvm.MethodName)) ∈ lw_all := lw_g (lw_at lw_m1 186 rfl) rfl
theorem q211 : (Jvm.Cond.selects "HilbertBasisModel" ({ cls := "HilbertBasisModel", name := "set", desc := "(II)I" } : Jvm.MethodName) ({ cls := "HilbertBasisModel", name := "set", desc := "(II)I" } : Jvm.MethodName)) ∈ lw_all := lw_g (lw_at lw_m1 187 rfl) rfl
theorem q212 : (Jvm.Cond.code ({ cls := "HilbertBasisModel", name := "set", desc := "(II)I" } : Jvm.MethodName) prog_3_method_4_code (4 : Nat) (Option.some Jvm.ClassFile.FieldType.int)) ∈ lw_all := lw_g (lw_at lw_m1 188 rfl) rfl
theorem q214 : (Jvm.Cond.instanceMethod ({ cls := "HilbertBasisModel", name := "sow", desc := "(II)I" } : Jvm.MethodName)) ∈ lw_all := lw_g (lw_at lw_m1 190 rfl) rfl
theorem q215 : (Jvm.Cond.selects "HilbertBasisModel" ({ cls := "HilbertBasisModel", name := "sow", desc := "(II)I" } : Jvm.MethodName) ({ cls := "HilbertBasisModel", name := "sow", desc := "(II)I" } : Jvm.MethodName)) ∈ lw_all := lw_g (lw_at lw_m1 191 rfl) rfl
theorem q216 : (Jvm.Cond.code ({ cls := "HilbertBasisModel", name := "sow", desc := "(II)I" } : Jvm.MethodName) prog_3_method_5_code (5 : Nat) (Option.some Jvm.ClassFile.FieldType.int)) ∈ lw_all := lw_g (lw_at lw_m1 192 rfl) rfl
theorem q218 : (Jvm.Cond.instanceMethod ({ cls := "HilbertBasisModel", name := "weight", desc := "(I)I" } : Jvm.MethodName)) ∈ lw_all := lw_g (lw_at lw_m1 194 rfl) rfl
theorem q219 : (Jvm.Cond.selects "HilbertBasisModel" ({ cls := "HilbertBasisModel", name := "weight", desc := "(I)I" } : Jvm.MethodName) ({ cls := "HilbertBasisModel", name := "weight", desc := "(I)I" } : Jvm.MethodName)) ∈ lw_all := lw_g (lw_at lw_m1 195 rfl) rfl
theorem q220 : (Jvm.Cond.code ({ cls := "HilbertBasisModel", name := "weight", desc := "(I)I" } : Jvm.MethodName) prog_3_method_6_code (2 : Nat) (Option.some Jvm.ClassFile.FieldType.int)) ∈ lw_all := lw_g (lw_at lw_m1 196 rfl) rfl
theorem q222 : (Jvm.Cond.instanceMethod ({ cls := "HilbertBasisModel", name := "isBalance", desc := "(I)I" } : Jvm.MethodName)) ∈ lw_all := lw_g (lw_at lw_m1 198 rfl) rfl
theorem q223 : (Jvm.Cond.selects "HilbertBasisModel" ({ cls := "HilbertBasisModel", name := "isBalance", desc := "(I)I" } : Jvm.MethodName) ({ cls := "HilbertBasisModel", name := "isBalance", desc := "(I)I" } : Jvm.MethodName)) ∈ lw_all := lw_g (lw_at lw_m1 199 rfl) rfl
theorem q224 : (Jvm.Cond.code ({ cls := "HilbertBasisModel", name := "isBalance", desc := "(I)I" } : Jvm.MethodName) prog_3_method_11_code (2 : Nat) (Option.some Jvm.ClassFile.FieldType.int)) ∈ lw_all := lw_g (lw_at lw_m1 200 rfl) rfl
theorem q225 : (Jvm.Cond.methodLink "HilbertBasisModel" (48 : Nat) ({ cls := "HilbertBasisModel", name := "badCode", desc := "(I)Z" } : Jvm.MethodName)) ∈ lw_all := lw_g (lw_at lw_m1 201 rfl) rfl
theorem q226 : (Jvm.Cond.privateMethod ({ cls := "HilbertBasisModel", name := "badCode", desc := "(I)Z" } : Jvm.MethodName)) ∈ lw_tbl := lw_at lw_m1 202 rfl
theorem q227 : (Jvm.Cond.instanceMethod ({ cls := "HilbertBasisModel", name := "badCode", desc := "(I)Z" } : Jvm.MethodName)) ∈ lw_all := lw_g (lw_at lw_m1 203 rfl) rfl
theorem q228 : (Jvm.Cond.code ({ cls := "HilbertBasisModel", name := "badCode", desc := "(I)Z" } : Jvm.MethodName) prog_3_method_3_code (2 : Nat) (Option.some Jvm.ClassFile.FieldType.boolean)) ∈ lw_all := lw_g (lw_at lw_m1 204 rfl) rfl
theorem q229 : (Jvm.Cond.methodLink "HilbertBasisModel" (41 : Nat) ({ cls := "HilbertBasisModel", name := "balanced", desc := "(I)Z" } : Jvm.MethodName)) ∈ lw_all := lw_g (lw_at lw_m1 205 rfl) rfl
theorem q230 : (Jvm.Cond.privateMethod ({ cls := "HilbertBasisModel", name := "balanced", desc := "(I)Z" } : Jvm.MethodName)) ∈ lw_tbl := lw_at lw_m1 206 rfl
theorem q231 : (Jvm.Cond.instanceMethod ({ cls := "HilbertBasisModel", name := "balanced", desc := "(I)Z" } : Jvm.MethodName)) ∈ lw_all := lw_g (lw_at lw_m1 207 rfl) rfl
theorem q232 : (Jvm.Cond.code ({ cls := "HilbertBasisModel", name := "balanced", desc := "(I)Z" } : Jvm.MethodName) prog_3_method_7_code (4 : Nat) (Option.some Jvm.ClassFile.FieldType.boolean)) ∈ lw_all := lw_g (lw_at lw_m1 208 rfl) rfl
theorem q233 : (Jvm.Cond.methodLink "HilbertBasisModel" (26 : Nat) ({ cls := "HilbertBasisModel", name := "digit", desc := "(II)I" } : Jvm.MethodName)) ∈ lw_all := lw_g (lw_at lw_m1 209 rfl) rfl
theorem q234 : (Jvm.Cond.privateMethod ({ cls := "HilbertBasisModel", name := "digit", desc := "(II)I" } : Jvm.MethodName)) ∈ lw_tbl := lw_at lw_m1 210 rfl
theorem q235 : (Jvm.Cond.instanceMethod ({ cls := "HilbertBasisModel", name := "digit", desc := "(II)I" } : Jvm.MethodName)) ∈ lw_all := lw_g (lw_at lw_m1 211 rfl) rfl
theorem q236 : (Jvm.Cond.code ({ cls := "HilbertBasisModel", name := "digit", desc := "(II)I" } : Jvm.MethodName) prog_3_method_2_code (3 : Nat) (Option.some Jvm.ClassFile.FieldType.int)) ∈ lw_all := lw_g (lw_at lw_m1 212 rfl) rfl
theorem q238 : (Jvm.Cond.instanceMethod ({ cls := "HilbertBasisModel", name := "isLeast", desc := "(I)I" } : Jvm.MethodName)) ∈ lw_all := lw_g (lw_at lw_m1 214 rfl) rfl
theorem q239 : (Jvm.Cond.selects "HilbertBasisModel" ({ cls := "HilbertBasisModel", name := "isLeast", desc := "(I)I" } : Jvm.MethodName) ({ cls := "HilbertBasisModel", name := "isLeast", desc := "(I)I" } : Jvm.MethodName)) ∈ lw_all := lw_g (lw_at lw_m1 215 rfl) rfl
theorem q240 : (Jvm.Cond.code ({ cls := "HilbertBasisModel", name := "isLeast", desc := "(I)I" } : Jvm.MethodName) prog_3_method_12_code (3 : Nat) (Option.some Jvm.ClassFile.FieldType.int)) ∈ lw_all := lw_g (lw_at lw_m1 216 rfl) rfl
theorem q241 : (Jvm.Cond.methodLink "HilbertBasisModel" (51 : Nat) ({ cls := "HilbertBasisModel", name := "work", desc := "()V" } : Jvm.MethodName)) ∈ lw_all := lw_g (lw_at lw_m1 217 rfl) rfl
theorem q242 : (Jvm.Cond.privateMethod ({ cls := "HilbertBasisModel", name := "work", desc := "()V" } : Jvm.MethodName)) ∈ lw_tbl := lw_at lw_m1 218 rfl
theorem q243 : (Jvm.Cond.instanceMethod ({ cls := "HilbertBasisModel", name := "work", desc := "()V" } : Jvm.MethodName)) ∈ lw_all := lw_g (lw_at lw_m1 219 rfl) rfl
theorem q244 : (Jvm.Cond.code ({ cls := "HilbertBasisModel", name := "work", desc := "()V" } : Jvm.MethodName) prog_3_method_10_code (3 : Nat) (Option.none : Option Jvm.ClassFile.FieldType)) ∈ lw_all := lw_g (lw_at lw_m1 220 rfl) rfl
theorem q245 : (Jvm.Cond.methodLink "HilbertBasisModel" (45 : Nat) ({ cls := "HilbertBasisModel", name := "alone", desc := "(I)Z" } : Jvm.MethodName)) ∈ lw_all := lw_g (lw_at lw_m1 221 rfl) rfl
theorem q246 : (Jvm.Cond.privateMethod ({ cls := "HilbertBasisModel", name := "alone", desc := "(I)Z" } : Jvm.MethodName)) ∈ lw_tbl := lw_at lw_m1 222 rfl
theorem q247 : (Jvm.Cond.instanceMethod ({ cls := "HilbertBasisModel", name := "alone", desc := "(I)Z" } : Jvm.MethodName)) ∈ lw_all := lw_g (lw_at lw_m1 223 rfl) rfl
theorem q248 : (Jvm.Cond.code ({ cls := "HilbertBasisModel", name := "alone", desc := "(I)Z" } : Jvm.MethodName) prog_3_method_9_code (3 : Nat) (Option.some Jvm.ClassFile.FieldType.boolean)) ∈ lw_all := lw_g (lw_at lw_m1 224 rfl) rfl
theorem q249 : (Jvm.Cond.methodLink "HilbertBasisModel" (34 : Nat) ({ cls := "HilbertBasisModel", name := "part", desc := "(II)Z" } : Jvm.MethodName)) ∈ lw_all := lw_g (lw_at lw_m1 225 rfl) rfl
theorem q250 : (Jvm.Cond.privateMethod ({ cls := "HilbertBasisModel", name := "part", desc := "(II)Z" } : Jvm.MethodName)) ∈ lw_tbl := lw_at lw_m1 226 rfl
theorem q251 : (Jvm.Cond.instanceMethod ({ cls := "HilbertBasisModel", name := "part", desc := "(II)Z" } : Jvm.MethodName)) ∈ lw_all := lw_g (lw_at lw_m1 227 rfl) rfl
theorem q252 : (Jvm.Cond.code ({ cls := "HilbertBasisModel", name := "part", desc := "(II)Z" } : Jvm.MethodName) prog_3_method_8_code (4 : Nat) (Option.some Jvm.ClassFile.FieldType.boolean)) ∈ lw_all := lw_g (lw_at lw_m1 228 rfl) rfl
theorem q254 : (Jvm.Cond.instanceMethod ({ cls := "HilbertBasisModel", name := "least", desc := "()I" } : Jvm.MethodName)) ∈ lw_all := lw_g (lw_at lw_m1 230 rfl) rfl
theorem q255 : (Jvm.Cond.selects "HilbertBasisModel" ({ cls := "HilbertBasisModel", name := "least", desc := "()I" } : Jvm.MethodName) ({ cls := "HilbertBasisModel", name := "least", desc := "()I" } : Jvm.MethodName)) ∈ lw_all := lw_g (lw_at lw_m1 231 rfl) rfl
theorem q256 : (Jvm.Cond.code ({ cls := "HilbertBasisModel", name := "least", desc := "()I" } : Jvm.MethodName) prog_3_method_13_code (1 : Nat) (Option.some Jvm.ClassFile.FieldType.int)) ∈ lw_all := lw_g (lw_at lw_m1 232 rfl) rfl
theorem q258 : (Jvm.Cond.instanceMethod ({ cls := "HilbertBasisModel", name := "code", desc := "(I)I" } : Jvm.MethodName)) ∈ lw_all := lw_g (lw_at lw_m1 234 rfl) rfl
theorem q259 : (Jvm.Cond.selects "HilbertBasisModel" ({ cls := "HilbertBasisModel", name := "code", desc := "(I)I" } : Jvm.MethodName) ({ cls := "HilbertBasisModel", name := "code", desc := "(I)I" } : Jvm.MethodName)) ∈ lw_all := lw_g (lw_at lw_m1 235 rfl) rfl
theorem q260 : (Jvm.Cond.code ({ cls := "HilbertBasisModel", name := "code", desc := "(I)I" } : Jvm.MethodName) prog_3_method_14_code (2 : Nat) (Option.some Jvm.ClassFile.FieldType.int)) ∈ lw_all := lw_g (lw_at lw_m1 236 rfl) rfl
theorem q262 : (Jvm.Cond.instanceMethod ({ cls := "HilbertBasisModel", name := "using", desc := "(I)I" } : Jvm.MethodName)) ∈ lw_all := lw_g (lw_at lw_m1 238 rfl) rfl
theorem q263 : (Jvm.Cond.selects "HilbertBasisModel" ({ cls := "HilbertBasisModel", name := "using", desc := "(I)I" } : Jvm.MethodName) ({ cls := "HilbertBasisModel", name := "using", desc := "(I)I" } : Jvm.MethodName)) ∈ lw_all := lw_g (lw_at lw_m1 239 rfl) rfl
theorem q264 : (Jvm.Cond.code ({ cls := "HilbertBasisModel", name := "using", desc := "(I)I" } : Jvm.MethodName) prog_3_method_15_code (4 : Nat) (Option.some Jvm.ClassFile.FieldType.int)) ∈ lw_all := lw_g (lw_at lw_m2 0 rfl) rfl
theorem q266 : (Jvm.Cond.instanceMethod ({ cls := "HilbertBasisModel", name := "longest", desc := "()I" } : Jvm.MethodName)) ∈ lw_all := lw_g (lw_at lw_m2 2 rfl) rfl
theorem q267 : (Jvm.Cond.selects "HilbertBasisModel" ({ cls := "HilbertBasisModel", name := "longest", desc := "()I" } : Jvm.MethodName) ({ cls := "HilbertBasisModel", name := "longest", desc := "()I" } : Jvm.MethodName)) ∈ lw_all := lw_g (lw_at lw_m2 3 rfl) rfl
theorem q268 : (Jvm.Cond.code ({ cls := "HilbertBasisModel", name := "longest", desc := "()I" } : Jvm.MethodName) prog_3_method_16_code (5 : Nat) (Option.some Jvm.ClassFile.FieldType.int)) ∈ lw_all := lw_g (lw_at lw_m2 4 rfl) rfl
theorem q270 : (Jvm.Cond.instanceMethod ({ cls := "HilbertBasisModel", name := "balances", desc := "(I)I" } : Jvm.MethodName)) ∈ lw_all := lw_g (lw_at lw_m2 6 rfl) rfl
theorem q271 : (Jvm.Cond.selects "HilbertBasisModel" ({ cls := "HilbertBasisModel", name := "balances", desc := "(I)I" } : Jvm.MethodName) ({ cls := "HilbertBasisModel", name := "balances", desc := "(I)I" } : Jvm.MethodName)) ∈ lw_all := lw_g (lw_at lw_m2 7 rfl) rfl
theorem q272 : (Jvm.Cond.code ({ cls := "HilbertBasisModel", name := "balances", desc := "(I)I" } : Jvm.MethodName) prog_3_method_18_code (5 : Nat) (Option.some Jvm.ClassFile.FieldType.int)) ∈ lw_all := lw_g (lw_at lw_m2 8 rfl) rfl
theorem q273 : (Jvm.Cond.methodLink "HilbertBasisModel" (54 : Nat) ({ cls := "HilbertBasisModel", name := "lastThree", desc := "(II)I" } : Jvm.MethodName)) ∈ lw_all := lw_g (lw_at lw_m2 9 rfl) rfl
theorem q274 : (Jvm.Cond.privateMethod ({ cls := "HilbertBasisModel", name := "lastThree", desc := "(II)I" } : Jvm.MethodName)) ∈ lw_tbl := lw_at lw_m2 10 rfl
theorem q275 : (Jvm.Cond.instanceMethod ({ cls := "HilbertBasisModel", name := "lastThree", desc := "(II)I" } : Jvm.MethodName)) ∈ lw_all := lw_g (lw_at lw_m2 11 rfl) rfl
theorem q276 : (Jvm.Cond.code ({ cls := "HilbertBasisModel", name := "lastThree", desc := "(II)I" } : Jvm.MethodName) prog_3_method_17_code (6 : Nat) (Option.some Jvm.ClassFile.FieldType.int)) ∈ lw_all := lw_g (lw_at lw_m2 12 rfl) rfl
theorem q278 : (Jvm.Cond.instanceMethod ({ cls := "HilbertBasisModel", name := "fewest", desc := "(I)I" } : Jvm.MethodName)) ∈ lw_all := lw_g (lw_at lw_m2 14 rfl) rfl
theorem q279 : (Jvm.Cond.selects "HilbertBasisModel" ({ cls := "HilbertBasisModel", name := "fewest", desc := "(I)I" } : Jvm.MethodName) ({ cls := "HilbertBasisModel", name := "fewest", desc := "(I)I" } : Jvm.MethodName)) ∈ lw_all := lw_g (lw_at lw_m2 15 rfl) rfl
theorem q280 : (Jvm.Cond.code ({ cls := "HilbertBasisModel", name := "fewest", desc := "(I)I" } : Jvm.MethodName) prog_3_method_23_code (2 : Nat) (Option.some Jvm.ClassFile.FieldType.int)) ∈ lw_all := lw_g (lw_at lw_m2 16 rfl) rfl
theorem q281 : (Jvm.Cond.methodLink "HilbertBasisModel" (68 : Nat) ({ cls := "HilbertBasisModel", name := "sums", desc := "(I)V" } : Jvm.MethodName)) ∈ lw_all := lw_g (lw_at lw_m2 17 rfl) rfl
theorem q282 : (Jvm.Cond.privateMethod ({ cls := "HilbertBasisModel", name := "sums", desc := "(I)V" } : Jvm.MethodName)) ∈ lw_tbl := lw_at lw_m2 18 rfl
theorem q283 : (Jvm.Cond.instanceMethod ({ cls := "HilbertBasisModel", name := "sums", desc := "(I)V" } : Jvm.MethodName)) ∈ lw_all := lw_g (lw_at lw_m2 19 rfl) rfl
theorem q284 : (Jvm.Cond.code ({ cls := "HilbertBasisModel", name := "sums", desc := "(I)V" } : Jvm.MethodName) prog_3_method_21_code (5 : Nat) (Option.none : Option Jvm.ClassFile.FieldType)) ∈ lw_all := lw_g (lw_at lw_m2 20 rfl) rfl
theorem q285 : (Jvm.Cond.methodLink "HilbertBasisModel" (57 : Nat) ({ cls := "HilbertBasisModel", name := "parts", desc := "(I)I" } : Jvm.MethodName)) ∈ lw_all := lw_g (lw_at lw_m2 21 rfl) rfl
theorem q286 : (Jvm.Cond.privateMethod ({ cls := "HilbertBasisModel", name := "parts", desc := "(I)I" } : Jvm.MethodName)) ∈ lw_tbl := lw_at lw_m2 22 rfl
theorem q287 : (Jvm.Cond.instanceMethod ({ cls := "HilbertBasisModel", name := "parts", desc := "(I)I" } : Jvm.MethodName)) ∈ lw_all := lw_g (lw_at lw_m2 23 rfl) rfl
theorem q288 : (Jvm.Cond.code ({ cls := "HilbertBasisModel", name := "parts", desc := "(I)I" } : Jvm.MethodName) prog_3_method_19_code (4 : Nat) (Option.some Jvm.ClassFile.FieldType.int)) ∈ lw_all := lw_g (lw_at lw_m2 24 rfl) rfl
theorem q289 : (Jvm.Cond.methodLink "HilbertBasisModel" (61 : Nat) ({ cls := "HilbertBasisModel", name := "under", desc := "(II)I" } : Jvm.MethodName)) ∈ lw_all := lw_g (lw_at lw_m2 25 rfl) rfl
theorem q290 : (Jvm.Cond.privateMethod ({ cls := "HilbertBasisModel", name := "under", desc := "(II)I" } : Jvm.MethodName)) ∈ lw_tbl := lw_at lw_m2 26 rfl
theorem q291 : (Jvm.Cond.instanceMethod ({ cls := "HilbertBasisModel", name := "under", desc := "(II)I" } : Jvm.MethodName)) ∈ lw_all := lw_g (lw_at lw_m2 27 rfl) rfl
theorem q292 : (Jvm.Cond.code ({ cls := "HilbertBasisModel", name := "under", desc := "(II)I" } : Jvm.MethodName) prog_3_method_20_code (8 : Nat) (Option.some Jvm.ClassFile.FieldType.int)) ∈ lw_all := lw_g (lw_at lw_m2 28 rfl) rfl
theorem q293 : (Jvm.Cond.methodLink "HilbertBasisModel" (64 : Nat) ({ cls := "HilbertBasisModel", name := "spread", desc := "(III)V" } : Jvm.MethodName)) ∈ lw_all := lw_g (lw_at lw_m2 29 rfl) rfl
theorem q294 : (Jvm.Cond.privateMethod ({ cls := "HilbertBasisModel", name := "spread", desc := "(III)V" } : Jvm.MethodName)) ∈ lw_tbl := lw_at lw_m2 30 rfl
theorem q295 : (Jvm.Cond.instanceMethod ({ cls := "HilbertBasisModel", name := "spread", desc := "(III)V" } : Jvm.MethodName)) ∈ lw_all := lw_g (lw_at lw_m2 31 rfl) rfl
theorem q296 : (Jvm.Cond.code ({ cls := "HilbertBasisModel", name := "spread", desc := "(III)V" } : Jvm.MethodName) prog_3_method_22_code (7 : Nat) (Option.none : Option Jvm.ClassFile.FieldType)) ∈ lw_all := lw_g (lw_at lw_m2 32 rfl) rfl
theorem q298 : (Jvm.Cond.instanceMethod ({ cls := "HilbertBasisModel", name := "ways", desc := "(I)I" } : Jvm.MethodName)) ∈ lw_all := lw_g (lw_at lw_m2 34 rfl) rfl
theorem q299 : (Jvm.Cond.selects "HilbertBasisModel" ({ cls := "HilbertBasisModel", name := "ways", desc := "(I)I" } : Jvm.MethodName) ({ cls := "HilbertBasisModel", name := "ways", desc := "(I)I" } : Jvm.MethodName)) ∈ lw_all := lw_g (lw_at lw_m2 35 rfl) rfl
theorem q300 : (Jvm.Cond.code ({ cls := "HilbertBasisModel", name := "ways", desc := "(I)I" } : Jvm.MethodName) prog_3_method_24_code (2 : Nat) (Option.some Jvm.ClassFile.FieldType.int)) ∈ lw_all := lw_g (lw_at lw_m2 36 rfl) rfl
theorem q302 : (Jvm.Cond.instanceMethod ({ cls := "HilbertBasisModel", name := "inside", desc := "(I)I" } : Jvm.MethodName)) ∈ lw_all := lw_g (lw_at lw_m2 38 rfl) rfl
theorem q303 : (Jvm.Cond.selects "HilbertBasisModel" ({ cls := "HilbertBasisModel", name := "inside", desc := "(I)I" } : Jvm.MethodName) ({ cls := "HilbertBasisModel", name := "inside", desc := "(I)I" } : Jvm.MethodName)) ∈ lw_all := lw_g (lw_at lw_m2 39 rfl) rfl
theorem q304 : (Jvm.Cond.code ({ cls := "HilbertBasisModel", name := "inside", desc := "(I)I" } : Jvm.MethodName) prog_3_method_25_code (3 : Nat) (Option.some Jvm.ClassFile.FieldType.int)) ∈ lw_all := lw_g (lw_at lw_m2 40 rfl) rfl
theorem q306 : (Jvm.Cond.instanceMethod ({ cls := "HilbertBasisModel", name := "small", desc := "()I" } : Jvm.MethodName)) ∈ lw_all := lw_g (lw_at lw_m2 42 rfl) rfl
theorem q307 : (Jvm.Cond.selects "HilbertBasisModel" ({ cls := "HilbertBasisModel", name := "small", desc := "()I" } : Jvm.MethodName) ({ cls := "HilbertBasisModel", name := "small", desc := "()I" } : Jvm.MethodName)) ∈ lw_all := lw_g (lw_at lw_m2 43 rfl) rfl
theorem q308 : (Jvm.Cond.code ({ cls := "HilbertBasisModel", name := "small", desc := "()I" } : Jvm.MethodName) prog_3_method_26_code (1 : Nat) (Option.some Jvm.ClassFile.FieldType.int)) ∈ lw_all := lw_g (lw_at lw_m2 44 rfl) rfl
theorem in_X1 : ∀ w ∈ wsX10, w ∈ lw_all := lw_in wsX10 [194, 196, 198, 200, 202, 204, 206] (by decide +kernel) (by decide +kernel)
end
section
/-! java/lang/Object -/
set_option maxRecDepth 100000
def RJ0 : String := "java/lang/Object"
abbrev cJ0_init : ByteArray := object_method_1_code
def yJ0_init : MethodName := ⟨RJ0, "<init>", "()V"⟩
theorem dJ0_init_0 : decode cJ0_init 0 = .ok (.return_, 1) := by decide +kernel
theorem q33 : (Jvm.Cond.instanceMethod ({ cls := "java/lang/Object", name := "<init>", desc := "()V" } : Jvm.MethodName)) ∈ lw_all := lw_g (lw_at lw_m1 9 rfl) rfl
theorem q34 : (Jvm.Cond.code ({ cls := "java/lang/Object", name := "<init>", desc := "()V" } : Jvm.MethodName) object_method_1_code (1 : Nat) (Option.none : Option Jvm.ClassFile.FieldType)) ∈ lw_all := lw_g (lw_at lw_m1 10 rfl) rfl
theorem q66 : (Jvm.Cond.arrayClass Jvm.ClassFile.FieldType.int) ∈ lw_all := lw_g (lw_at lw_m1 42 rfl) rfl
set_option maxRecDepth 100000
theorem q24 : (Jvm.Cond.initialized "HilbertBasisLaw") ∈ lw_all := lw_g (lw_at lw_m1 0 rfl) rfl
set_option maxRecDepth 100000
theorem q27 : (Jvm.Cond.classLink "HilbertBasisLaw" (7 : Nat) "HilbertBasis") ∈ lw_all := lw_g (lw_at lw_m1 3 rfl) rfl
theorem q29 : (Jvm.Cond.methodLink "HilbertBasisLaw" (9 : Nat) ({ cls := "HilbertBasis", name := "<init>", desc := "()V" } : Jvm.MethodName)) ∈ lw_all := lw_g (lw_at lw_m1 5 rfl) rfl
theorem q67 : (Jvm.Cond.methodLink "HilbertBasisLaw" (13 : Nat) ({ cls := "HilbertBasis", name := "set", desc := "(II)I" } : Jvm.MethodName)) ∈ lw_all := lw_g (lw_at lw_m1 43 rfl) rfl
theorem q74 : (Jvm.Cond.methodLink "HilbertBasisLaw" (18 : Nat) ({ cls := "HilbertBasis", name := "sow", desc := "(II)I" } : Jvm.MethodName)) ∈ lw_all := lw_g (lw_at lw_m1 50 rfl) rfl
theorem q78 : (Jvm.Cond.methodLink "HilbertBasisLaw" (22 : Nat) ({ cls := "HilbertBasis", name := "weight", desc := "(I)I" } : Jvm.MethodName)) ∈ lw_all := lw_g (lw_at lw_m1 54 rfl) rfl
theorem q82 : (Jvm.Cond.methodLink "HilbertBasisLaw" (27 : Nat) ({ cls := "HilbertBasis", name := "isBalance", desc := "(I)I" } : Jvm.MethodName)) ∈ lw_all := lw_g (lw_at lw_m1 58 rfl) rfl
theorem q97 : (Jvm.Cond.methodLink "HilbertBasisLaw" (31 : Nat) ({ cls := "HilbertBasis", name := "isLeast", desc := "(I)I" } : Jvm.MethodName)) ∈ lw_all := lw_g (lw_at lw_m1 73 rfl) rfl
theorem q133 : (Jvm.Cond.methodLink "HilbertBasisLaw" (35 : Nat) ({ cls := "HilbertBasis", name := "least", desc := "()I" } : Jvm.MethodName)) ∈ lw_all := lw_g (lw_at lw_m1 109 rfl) rfl
theorem q137 : (Jvm.Cond.methodLink "HilbertBasisLaw" (40 : Nat) ({ cls := "HilbertBasis", name := "code", desc := "(I)I" } : Jvm.MethodName)) ∈ lw_all := lw_g (lw_at lw_m1 113 rfl) rfl
theorem q141 : (Jvm.Cond.methodLink "HilbertBasisLaw" (44 : Nat) ({ cls := "HilbertBasis", name := "using", desc := "(I)I" } : Jvm.MethodName)) ∈ lw_all := lw_g (lw_at lw_m1 117 rfl) rfl
theorem q145 : (Jvm.Cond.methodLink "HilbertBasisLaw" (48 : Nat) ({ cls := "HilbertBasis", name := "longest", desc := "()I" } : Jvm.MethodName)) ∈ lw_all := lw_g (lw_at lw_m1 121 rfl) rfl
theorem q153 : (Jvm.Cond.methodLink "HilbertBasisLaw" (52 : Nat) ({ cls := "HilbertBasis", name := "balances", desc := "(I)I" } : Jvm.MethodName)) ∈ lw_all := lw_g (lw_at lw_m1 129 rfl) rfl
theorem q161 : (Jvm.Cond.methodLink "HilbertBasisLaw" (56 : Nat) ({ cls := "HilbertBasis", name := "fewest", desc := "(I)I" } : Jvm.MethodName)) ∈ lw_all := lw_g (lw_at lw_m1 137 rfl) rfl
theorem q169 : (Jvm.Cond.methodLink "HilbertBasisLaw" (60 : Nat) ({ cls := "HilbertBasis", name := "ways", desc := "(I)I" } : Jvm.MethodName)) ∈ lw_all := lw_g (lw_at lw_m1 145 rfl) rfl
theorem q173 : (Jvm.Cond.methodLink "HilbertBasisLaw" (64 : Nat) ({ cls := "HilbertBasis", name := "inside", desc := "(I)I" } : Jvm.MethodName)) ∈ lw_all := lw_g (lw_at lw_m1 149 rfl) rfl
theorem q177 : (Jvm.Cond.methodLink "HilbertBasisLaw" (68 : Nat) ({ cls := "HilbertBasis", name := "small", desc := "()I" } : Jvm.MethodName)) ∈ lw_all := lw_g (lw_at lw_m1 153 rfl) rfl
theorem q181 : (Jvm.Cond.classLink "HilbertBasisLaw" (10 : Nat) "HilbertBasisModel") ∈ lw_all := lw_g (lw_at lw_m1 157 rfl) rfl
theorem q183 : (Jvm.Cond.methodLink "HilbertBasisLaw" (12 : Nat) ({ cls := "HilbertBasisModel", name := "<init>", desc := "()V" } : Jvm.MethodName)) ∈ lw_all := lw_g (lw_at lw_m1 159 rfl) rfl
theorem q209 : (Jvm.Cond.methodLink "HilbertBasisLaw" (17 : Nat) ({ cls := "HilbertBasisModel", name := "set", desc := "(II)I" } : Jvm.MethodName)) ∈ lw_all := lw_g (lw_at lw_m1 185 rfl) rfl
theorem q213 : (Jvm.Cond.methodLink "HilbertBasisLaw" (21 : Nat) ({ cls := "HilbertBasisModel", name := "sow", desc := "(II)I" } : Jvm.MethodName)) ∈ lw_all := lw_g (lw_at lw_m1 189 rfl) rfl
theorem q217 : (Jvm.Cond.methodLink "HilbertBasisLaw" (26 : Nat) ({ cls := "HilbertBasisModel", name := "weight", desc := "(I)I" } : Jvm.MethodName)) ∈ lw_all := lw_g (lw_at lw_m1 193 rfl) rfl
theorem q221 : (Jvm.Cond.methodLink "HilbertBasisLaw" (30 : Nat) ({ cls := "HilbertBasisModel", name := "isBalance", desc := "(I)I" } : Jvm.MethodName)) ∈ lw_all := lw_g (lw_at lw_m1 197 rfl) rfl
theorem q237 : (Jvm.Cond.methodLink "HilbertBasisLaw" (34 : Nat) ({ cls := "HilbertBasisModel", name := "isLeast", desc := "(I)I" } : Jvm.MethodName)) ∈ lw_all := lw_g (lw_at lw_m1 213 rfl) rfl
theorem q253 : (Jvm.Cond.methodLink "HilbertBasisLaw" (39 : Nat) ({ cls := "HilbertBasisModel", name := "least", desc := "()I" } : Jvm.MethodName)) ∈ lw_all := lw_g (lw_at lw_m1 229 rfl) rfl
theorem q257 : (Jvm.Cond.methodLink "HilbertBasisLaw" (43 : Nat) ({ cls := "HilbertBasisModel", name := "code", desc := "(I)I" } : Jvm.MethodName)) ∈ lw_all := lw_g (lw_at lw_m1 233 rfl) rfl
theorem q261 : (Jvm.Cond.methodLink "HilbertBasisLaw" (47 : Nat) ({ cls := "HilbertBasisModel", name := "using", desc := "(I)I" } : Jvm.MethodName)) ∈ lw_all := lw_g (lw_at lw_m1 237 rfl) rfl
theorem q265 : (Jvm.Cond.methodLink "HilbertBasisLaw" (51 : Nat) ({ cls := "HilbertBasisModel", name := "longest", desc := "()I" } : Jvm.MethodName)) ∈ lw_all := lw_g (lw_at lw_m2 1 rfl) rfl
theorem q269 : (Jvm.Cond.methodLink "HilbertBasisLaw" (55 : Nat) ({ cls := "HilbertBasisModel", name := "balances", desc := "(I)I" } : Jvm.MethodName)) ∈ lw_all := lw_g (lw_at lw_m2 5 rfl) rfl
theorem q277 : (Jvm.Cond.methodLink "HilbertBasisLaw" (59 : Nat) ({ cls := "HilbertBasisModel", name := "fewest", desc := "(I)I" } : Jvm.MethodName)) ∈ lw_all := lw_g (lw_at lw_m2 13 rfl) rfl
theorem q297 : (Jvm.Cond.methodLink "HilbertBasisLaw" (63 : Nat) ({ cls := "HilbertBasisModel", name := "ways", desc := "(I)I" } : Jvm.MethodName)) ∈ lw_all := lw_g (lw_at lw_m2 33 rfl) rfl
theorem q301 : (Jvm.Cond.methodLink "HilbertBasisLaw" (67 : Nat) ({ cls := "HilbertBasisModel", name := "inside", desc := "(I)I" } : Jvm.MethodName)) ∈ lw_all := lw_g (lw_at lw_m2 37 rfl) rfl
theorem q305 : (Jvm.Cond.methodLink "HilbertBasisLaw" (71 : Nat) ({ cls := "HilbertBasisModel", name := "small", desc := "()I" } : Jvm.MethodName)) ∈ lw_all := lw_g (lw_at lw_m2 41 rfl) rfl
end
section
/-! the law's own entry -/
set_option maxRecDepth 100000
abbrev cL_law : ByteArray := code
theorem dL_law_0 : decode cL_law 0 = .ok (.new 7, 3) := by decide +kernel
theorem dL_law_3 : decode cL_law 3 = .ok (.dup, 1) := by decide +kernel
theorem dL_law_4 : decode cL_law 4 = .ok (.invokespecial 9, 3) := by decide +kernel
theorem dL_law_7 : decode cL_law 7 = .ok (.astore_n 1, 1) := by decide +kernel
theorem dL_law_8 : decode cL_law 8 = .ok (.new 10, 3) := by decide +kernel
theorem dL_law_11 : decode cL_law 11 = .ok (.dup, 1) := by decide +kernel
theorem dL_law_12 : decode cL_law 12 = .ok (.invokespecial 12, 3) := by decide +kernel
theorem dL_law_15 : decode cL_law 15 = .ok (.astore_n 2, 1) := by decide +kernel
theorem dL_law_16 : decode cL_law 16 = .ok (.iconst 0, 1) := by decide +kernel
theorem dL_law_17 : decode cL_law 17 = .ok (.istore_n 3, 1) := by decide +kernel
theorem dL_law_18 : decode cL_law 18 = .ok (.iload_n 3, 1) := by decide +kernel
theorem dL_law_19 : decode cL_law 19 = .ok (.aload_n 0, 1) := by decide +kernel
theorem dL_law_20 : decode cL_law 20 = .ok (.arraylength, 1) := by decide +kernel
theorem dL_law_21 : decode cL_law 21 = .ok (.iconst 3, 1) := by decide +kernel
theorem dL_law_22 : decode cL_law 22 = .ok (.isub, 1) := by decide +kernel
theorem dL_law_23 : decode cL_law 23 = .ok (.if_icmp .gt 399, 3) := by decide +kernel
theorem dL_law_26 : decode cL_law 26 = .ok (.aload_n 0, 1) := by decide +kernel
theorem dL_law_27 : decode cL_law 27 = .ok (.iload_n 3, 1) := by decide +kernel
theorem dL_law_28 : decode cL_law 28 = .ok (.iaload, 1) := by decide +kernel
theorem dL_law_29 : decode cL_law 29 = .ok (.bipush 15, 2) := by decide +kernel
theorem dL_law_31 : decode cL_law 31 = .ok (.iand, 1) := by decide +kernel
theorem dL_law_32 : decode cL_law 32 = .ok (.tableswitch 384 0 13 #[72, 105, 138, 161, 184, 207, 220, 243, 266, 279, 302, 325, 348, 371], 72) := by decide +kernel
theorem dL_law_104 : decode cL_law 104 = .ok (.aload_n 1, 1) := by decide +kernel
theorem dL_law_105 : decode cL_law 105 = .ok (.aload_n 0, 1) := by decide +kernel
theorem dL_law_106 : decode cL_law 106 = .ok (.iload_n 3, 1) := by decide +kernel
theorem dL_law_107 : decode cL_law 107 = .ok (.iconst 1, 1) := by decide +kernel
theorem dL_law_108 : decode cL_law 108 = .ok (.iadd, 1) := by decide +kernel
theorem dL_law_109 : decode cL_law 109 = .ok (.iaload, 1) := by decide +kernel
theorem dL_law_110 : decode cL_law 110 = .ok (.aload_n 0, 1) := by decide +kernel
theorem dL_law_111 : decode cL_law 111 = .ok (.iload_n 3, 1) := by decide +kernel
theorem dL_law_112 : decode cL_law 112 = .ok (.iconst 2, 1) := by decide +kernel
theorem dL_law_113 : decode cL_law 113 = .ok (.iadd, 1) := by decide +kernel
theorem dL_law_114 : decode cL_law 114 = .ok (.iaload, 1) := by decide +kernel
theorem dL_law_115 : decode cL_law 115 = .ok (.invokevirtual 13, 3) := by decide +kernel
theorem dL_law_118 : decode cL_law 118 = .ok (.aload_n 2, 1) := by decide +kernel
theorem dL_law_119 : decode cL_law 119 = .ok (.aload_n 0, 1) := by decide +kernel
theorem dL_law_120 : decode cL_law 120 = .ok (.iload_n 3, 1) := by decide +kernel
theorem dL_law_121 : decode cL_law 121 = .ok (.iconst 1, 1) := by decide +kernel
theorem dL_law_122 : decode cL_law 122 = .ok (.iadd, 1) := by decide +kernel
theorem dL_law_123 : decode cL_law 123 = .ok (.iaload, 1) := by decide +kernel
theorem dL_law_124 : decode cL_law 124 = .ok (.aload_n 0, 1) := by decide +kernel
theorem dL_law_125 : decode cL_law 125 = .ok (.iload_n 3, 1) := by decide +kernel
theorem dL_law_126 : decode cL_law 126 = .ok (.iconst 2, 1) := by decide +kernel
theorem dL_law_127 : decode cL_law 127 = .ok (.iadd, 1) := by decide +kernel
theorem dL_law_128 : decode cL_law 128 = .ok (.iaload, 1) := by decide +kernel
theorem dL_law_129 : decode cL_law 129 = .ok (.invokevirtual 17, 3) := by decide +kernel
theorem dL_law_132 : decode cL_law 132 = .ok (.if_icmp .eq 284, 3) := by decide +kernel
theorem dL_law_135 : decode cL_law 135 = .ok (.iconst 0, 1) := by decide +kernel
theorem dL_law_136 : decode cL_law 136 = .ok (.ireturn, 1) := by decide +kernel
theorem dL_law_137 : decode cL_law 137 = .ok (.aload_n 1, 1) := by decide +kernel
theorem dL_law_138 : decode cL_law 138 = .ok (.aload_n 0, 1) := by decide +kernel
theorem dL_law_139 : decode cL_law 139 = .ok (.iload_n 3, 1) := by decide +kernel
theorem dL_law_140 : decode cL_law 140 = .ok (.iconst 1, 1) := by decide +kernel
theorem dL_law_141 : decode cL_law 141 = .ok (.iadd, 1) := by decide +kernel
theorem dL_law_142 : decode cL_law 142 = .ok (.iaload, 1) := by decide +kernel
theorem dL_law_143 : decode cL_law 143 = .ok (.aload_n 0, 1) := by decide +kernel
theorem dL_law_144 : decode cL_law 144 = .ok (.iload_n 3, 1) := by decide +kernel
theorem dL_law_145 : decode cL_law 145 = .ok (.iconst 2, 1) := by decide +kernel
theorem dL_law_146 : decode cL_law 146 = .ok (.iadd, 1) := by decide +kernel
theorem dL_law_147 : decode cL_law 147 = .ok (.iaload, 1) := by decide +kernel
theorem dL_law_148 : decode cL_law 148 = .ok (.invokevirtual 18, 3) := by decide +kernel
theorem dL_law_151 : decode cL_law 151 = .ok (.aload_n 2, 1) := by decide +kernel
theorem dL_law_152 : decode cL_law 152 = .ok (.aload_n 0, 1) := by decide +kernel
theorem dL_law_153 : decode cL_law 153 = .ok (.iload_n 3, 1) := by decide +kernel
theorem dL_law_154 : decode cL_law 154 = .ok (.iconst 1, 1) := by decide +kernel
theorem dL_law_155 : decode cL_law 155 = .ok (.iadd, 1) := by decide +kernel
theorem dL_law_156 : decode cL_law 156 = .ok (.iaload, 1) := by decide +kernel
theorem dL_law_157 : decode cL_law 157 = .ok (.aload_n 0, 1) := by decide +kernel
theorem dL_law_158 : decode cL_law 158 = .ok (.iload_n 3, 1) := by decide +kernel
theorem dL_law_159 : decode cL_law 159 = .ok (.iconst 2, 1) := by decide +kernel
theorem dL_law_160 : decode cL_law 160 = .ok (.iadd, 1) := by decide +kernel
theorem dL_law_161 : decode cL_law 161 = .ok (.iaload, 1) := by decide +kernel
theorem dL_law_162 : decode cL_law 162 = .ok (.invokevirtual 21, 3) := by decide +kernel
theorem dL_law_165 : decode cL_law 165 = .ok (.if_icmp .eq 251, 3) := by decide +kernel
theorem dL_law_168 : decode cL_law 168 = .ok (.iconst 0, 1) := by decide +kernel
theorem dL_law_169 : decode cL_law 169 = .ok (.ireturn, 1) := by decide +kernel
theorem dL_law_170 : decode cL_law 170 = .ok (.aload_n 1, 1) := by decide +kernel
theorem dL_law_171 : decode cL_law 171 = .ok (.aload_n 0, 1) := by decide +kernel
theorem dL_law_172 : decode cL_law 172 = .ok (.iload_n 3, 1) := by decide +kernel
theorem dL_law_173 : decode cL_law 173 = .ok (.iconst 1, 1) := by decide +kernel
theorem dL_law_174 : decode cL_law 174 = .ok (.iadd, 1) := by decide +kernel
theorem dL_law_175 : decode cL_law 175 = .ok (.iaload, 1) := by decide +kernel
theorem dL_law_176 : decode cL_law 176 = .ok (.invokevirtual 22, 3) := by decide +kernel
theorem dL_law_179 : decode cL_law 179 = .ok (.aload_n 2, 1) := by decide +kernel
theorem dL_law_180 : decode cL_law 180 = .ok (.aload_n 0, 1) := by decide +kernel
theorem dL_law_181 : decode cL_law 181 = .ok (.iload_n 3, 1) := by decide +kernel
theorem dL_law_182 : decode cL_law 182 = .ok (.iconst 1, 1) := by decide +kernel
theorem dL_law_183 : decode cL_law 183 = .ok (.iadd, 1) := by decide +kernel
theorem dL_law_184 : decode cL_law 184 = .ok (.iaload, 1) := by decide +kernel
theorem dL_law_185 : decode cL_law 185 = .ok (.invokevirtual 26, 3) := by decide +kernel
theorem dL_law_188 : decode cL_law 188 = .ok (.if_icmp .eq 228, 3) := by decide +kernel
theorem dL_law_191 : decode cL_law 191 = .ok (.iconst 0, 1) := by decide +kernel
theorem dL_law_192 : decode cL_law 192 = .ok (.ireturn, 1) := by decide +kernel
theorem dL_law_193 : decode cL_law 193 = .ok (.aload_n 1, 1) := by decide +kernel
theorem dL_law_194 : decode cL_law 194 = .ok (.aload_n 0, 1) := by decide +kernel
theorem dL_law_195 : decode cL_law 195 = .ok (.iload_n 3, 1) := by decide +kernel
theorem dL_law_196 : decode cL_law 196 = .ok (.iconst 1, 1) := by decide +kernel
theorem dL_law_197 : decode cL_law 197 = .ok (.iadd, 1) := by decide +kernel
theorem dL_law_198 : decode cL_law 198 = .ok (.iaload, 1) := by decide +kernel
theorem dL_law_199 : decode cL_law 199 = .ok (.invokevirtual 27, 3) := by decide +kernel
theorem dL_law_202 : decode cL_law 202 = .ok (.aload_n 2, 1) := by decide +kernel
theorem dL_law_203 : decode cL_law 203 = .ok (.aload_n 0, 1) := by decide +kernel
theorem dL_law_204 : decode cL_law 204 = .ok (.iload_n 3, 1) := by decide +kernel
theorem dL_law_205 : decode cL_law 205 = .ok (.iconst 1, 1) := by decide +kernel
theorem dL_law_206 : decode cL_law 206 = .ok (.iadd, 1) := by decide +kernel
theorem dL_law_207 : decode cL_law 207 = .ok (.iaload, 1) := by decide +kernel
theorem dL_law_208 : decode cL_law 208 = .ok (.invokevirtual 30, 3) := by decide +kernel
theorem dL_law_211 : decode cL_law 211 = .ok (.if_icmp .eq 205, 3) := by decide +kernel
theorem dL_law_214 : decode cL_law 214 = .ok (.iconst 0, 1) := by decide +kernel
theorem dL_law_215 : decode cL_law 215 = .ok (.ireturn, 1) := by decide +kernel
theorem dL_law_216 : decode cL_law 216 = .ok (.aload_n 1, 1) := by decide +kernel
theorem dL_law_217 : decode cL_law 217 = .ok (.aload_n 0, 1) := by decide +kernel
theorem dL_law_218 : decode cL_law 218 = .ok (.iload_n 3, 1) := by decide +kernel
theorem dL_law_219 : decode cL_law 219 = .ok (.iconst 1, 1) := by decide +kernel
theorem dL_law_220 : decode cL_law 220 = .ok (.iadd, 1) := by decide +kernel
theorem dL_law_221 : decode cL_law 221 = .ok (.iaload, 1) := by decide +kernel
theorem dL_law_222 : decode cL_law 222 = .ok (.invokevirtual 31, 3) := by decide +kernel
theorem dL_law_225 : decode cL_law 225 = .ok (.aload_n 2, 1) := by decide +kernel
theorem dL_law_226 : decode cL_law 226 = .ok (.aload_n 0, 1) := by decide +kernel
theorem dL_law_227 : decode cL_law 227 = .ok (.iload_n 3, 1) := by decide +kernel
theorem dL_law_228 : decode cL_law 228 = .ok (.iconst 1, 1) := by decide +kernel
theorem dL_law_229 : decode cL_law 229 = .ok (.iadd, 1) := by decide +kernel
theorem dL_law_230 : decode cL_law 230 = .ok (.iaload, 1) := by decide +kernel
theorem dL_law_231 : decode cL_law 231 = .ok (.invokevirtual 34, 3) := by decide +kernel
theorem dL_law_234 : decode cL_law 234 = .ok (.if_icmp .eq 182, 3) := by decide +kernel
theorem dL_law_237 : decode cL_law 237 = .ok (.iconst 0, 1) := by decide +kernel
theorem dL_law_238 : decode cL_law 238 = .ok (.ireturn, 1) := by decide +kernel
theorem dL_law_239 : decode cL_law 239 = .ok (.aload_n 1, 1) := by decide +kernel
theorem dL_law_240 : decode cL_law 240 = .ok (.invokevirtual 35, 3) := by decide +kernel
theorem dL_law_243 : decode cL_law 243 = .ok (.aload_n 2, 1) := by decide +kernel
theorem dL_law_244 : decode cL_law 244 = .ok (.invokevirtual 39, 3) := by decide +kernel
theorem dL_law_247 : decode cL_law 247 = .ok (.if_icmp .eq 169, 3) := by decide +kernel
theorem dL_law_250 : decode cL_law 250 = .ok (.iconst 0, 1) := by decide +kernel
theorem dL_law_251 : decode cL_law 251 = .ok (.ireturn, 1) := by decide +kernel
theorem dL_law_252 : decode cL_law 252 = .ok (.aload_n 1, 1) := by decide +kernel
theorem dL_law_253 : decode cL_law 253 = .ok (.aload_n 0, 1) := by decide +kernel
theorem dL_law_254 : decode cL_law 254 = .ok (.iload_n 3, 1) := by decide +kernel
theorem dL_law_255 : decode cL_law 255 = .ok (.iconst 1, 1) := by decide +kernel
theorem dL_law_256 : decode cL_law 256 = .ok (.iadd, 1) := by decide +kernel
theorem dL_law_257 : decode cL_law 257 = .ok (.iaload, 1) := by decide +kernel
theorem dL_law_258 : decode cL_law 258 = .ok (.invokevirtual 40, 3) := by decide +kernel
theorem dL_law_261 : decode cL_law 261 = .ok (.aload_n 2, 1) := by decide +kernel
theorem dL_law_262 : decode cL_law 262 = .ok (.aload_n 0, 1) := by decide +kernel
theorem dL_law_263 : decode cL_law 263 = .ok (.iload_n 3, 1) := by decide +kernel
theorem dL_law_264 : decode cL_law 264 = .ok (.iconst 1, 1) := by decide +kernel
theorem dL_law_265 : decode cL_law 265 = .ok (.iadd, 1) := by decide +kernel
theorem dL_law_266 : decode cL_law 266 = .ok (.iaload, 1) := by decide +kernel
theorem dL_law_267 : decode cL_law 267 = .ok (.invokevirtual 43, 3) := by decide +kernel
theorem dL_law_270 : decode cL_law 270 = .ok (.if_icmp .eq 146, 3) := by decide +kernel
theorem dL_law_273 : decode cL_law 273 = .ok (.iconst 0, 1) := by decide +kernel
theorem dL_law_274 : decode cL_law 274 = .ok (.ireturn, 1) := by decide +kernel
theorem dL_law_275 : decode cL_law 275 = .ok (.aload_n 1, 1) := by decide +kernel
theorem dL_law_276 : decode cL_law 276 = .ok (.aload_n 0, 1) := by decide +kernel
theorem dL_law_277 : decode cL_law 277 = .ok (.iload_n 3, 1) := by decide +kernel
theorem dL_law_278 : decode cL_law 278 = .ok (.iconst 1, 1) := by decide +kernel
theorem dL_law_279 : decode cL_law 279 = .ok (.iadd, 1) := by decide +kernel
theorem dL_law_280 : decode cL_law 280 = .ok (.iaload, 1) := by decide +kernel
theorem dL_law_281 : decode cL_law 281 = .ok (.invokevirtual 44, 3) := by decide +kernel
theorem dL_law_284 : decode cL_law 284 = .ok (.aload_n 2, 1) := by decide +kernel
theorem dL_law_285 : decode cL_law 285 = .ok (.aload_n 0, 1) := by decide +kernel
theorem dL_law_286 : decode cL_law 286 = .ok (.iload_n 3, 1) := by decide +kernel
theorem dL_law_287 : decode cL_law 287 = .ok (.iconst 1, 1) := by decide +kernel
theorem dL_law_288 : decode cL_law 288 = .ok (.iadd, 1) := by decide +kernel
theorem dL_law_289 : decode cL_law 289 = .ok (.iaload, 1) := by decide +kernel
theorem dL_law_290 : decode cL_law 290 = .ok (.invokevirtual 47, 3) := by decide +kernel
theorem dL_law_293 : decode cL_law 293 = .ok (.if_icmp .eq 123, 3) := by decide +kernel
theorem dL_law_296 : decode cL_law 296 = .ok (.iconst 0, 1) := by decide +kernel
theorem dL_law_297 : decode cL_law 297 = .ok (.ireturn, 1) := by decide +kernel
theorem dL_law_298 : decode cL_law 298 = .ok (.aload_n 1, 1) := by decide +kernel
theorem dL_law_299 : decode cL_law 299 = .ok (.invokevirtual 48, 3) := by decide +kernel
theorem dL_law_302 : decode cL_law 302 = .ok (.aload_n 2, 1) := by decide +kernel
theorem dL_law_303 : decode cL_law 303 = .ok (.invokevirtual 51, 3) := by decide +kernel
theorem dL_law_306 : decode cL_law 306 = .ok (.if_icmp .eq 110, 3) := by decide +kernel
theorem dL_law_309 : decode cL_law 309 = .ok (.iconst 0, 1) := by decide +kernel
theorem dL_law_310 : decode cL_law 310 = .ok (.ireturn, 1) := by decide +kernel
theorem dL_law_311 : decode cL_law 311 = .ok (.aload_n 1, 1) := by decide +kernel
theorem dL_law_312 : decode cL_law 312 = .ok (.aload_n 0, 1) := by decide +kernel
theorem dL_law_313 : decode cL_law 313 = .ok (.iload_n 3, 1) := by decide +kernel
theorem dL_law_314 : decode cL_law 314 = .ok (.iconst 1, 1) := by decide +kernel
theorem dL_law_315 : decode cL_law 315 = .ok (.iadd, 1) := by decide +kernel
theorem dL_law_316 : decode cL_law 316 = .ok (.iaload, 1) := by decide +kernel
theorem dL_law_317 : decode cL_law 317 = .ok (.invokevirtual 52, 3) := by decide +kernel
theorem dL_law_320 : decode cL_law 320 = .ok (.aload_n 2, 1) := by decide +kernel
theorem dL_law_321 : decode cL_law 321 = .ok (.aload_n 0, 1) := by decide +kernel
theorem dL_law_322 : decode cL_law 322 = .ok (.iload_n 3, 1) := by decide +kernel
theorem dL_law_323 : decode cL_law 323 = .ok (.iconst 1, 1) := by decide +kernel
theorem dL_law_324 : decode cL_law 324 = .ok (.iadd, 1) := by decide +kernel
theorem dL_law_325 : decode cL_law 325 = .ok (.iaload, 1) := by decide +kernel
theorem dL_law_326 : decode cL_law 326 = .ok (.invokevirtual 55, 3) := by decide +kernel
theorem dL_law_329 : decode cL_law 329 = .ok (.if_icmp .eq 87, 3) := by decide +kernel
theorem dL_law_332 : decode cL_law 332 = .ok (.iconst 0, 1) := by decide +kernel
theorem dL_law_333 : decode cL_law 333 = .ok (.ireturn, 1) := by decide +kernel
theorem dL_law_334 : decode cL_law 334 = .ok (.aload_n 1, 1) := by decide +kernel
theorem dL_law_335 : decode cL_law 335 = .ok (.aload_n 0, 1) := by decide +kernel
theorem dL_law_336 : decode cL_law 336 = .ok (.iload_n 3, 1) := by decide +kernel
theorem dL_law_337 : decode cL_law 337 = .ok (.iconst 1, 1) := by decide +kernel
theorem dL_law_338 : decode cL_law 338 = .ok (.iadd, 1) := by decide +kernel
theorem dL_law_339 : decode cL_law 339 = .ok (.iaload, 1) := by decide +kernel
theorem dL_law_340 : decode cL_law 340 = .ok (.invokevirtual 56, 3) := by decide +kernel
theorem dL_law_343 : decode cL_law 343 = .ok (.aload_n 2, 1) := by decide +kernel
theorem dL_law_344 : decode cL_law 344 = .ok (.aload_n 0, 1) := by decide +kernel
theorem dL_law_345 : decode cL_law 345 = .ok (.iload_n 3, 1) := by decide +kernel
theorem dL_law_346 : decode cL_law 346 = .ok (.iconst 1, 1) := by decide +kernel
theorem dL_law_347 : decode cL_law 347 = .ok (.iadd, 1) := by decide +kernel
theorem dL_law_348 : decode cL_law 348 = .ok (.iaload, 1) := by decide +kernel
theorem dL_law_349 : decode cL_law 349 = .ok (.invokevirtual 59, 3) := by decide +kernel
theorem dL_law_352 : decode cL_law 352 = .ok (.if_icmp .eq 64, 3) := by decide +kernel
theorem dL_law_355 : decode cL_law 355 = .ok (.iconst 0, 1) := by decide +kernel
theorem dL_law_356 : decode cL_law 356 = .ok (.ireturn, 1) := by decide +kernel
theorem dL_law_357 : decode cL_law 357 = .ok (.aload_n 1, 1) := by decide +kernel
theorem dL_law_358 : decode cL_law 358 = .ok (.aload_n 0, 1) := by decide +kernel
theorem dL_law_359 : decode cL_law 359 = .ok (.iload_n 3, 1) := by decide +kernel
theorem dL_law_360 : decode cL_law 360 = .ok (.iconst 1, 1) := by decide +kernel
theorem dL_law_361 : decode cL_law 361 = .ok (.iadd, 1) := by decide +kernel
theorem dL_law_362 : decode cL_law 362 = .ok (.iaload, 1) := by decide +kernel
theorem dL_law_363 : decode cL_law 363 = .ok (.invokevirtual 60, 3) := by decide +kernel
theorem dL_law_366 : decode cL_law 366 = .ok (.aload_n 2, 1) := by decide +kernel
theorem dL_law_367 : decode cL_law 367 = .ok (.aload_n 0, 1) := by decide +kernel
theorem dL_law_368 : decode cL_law 368 = .ok (.iload_n 3, 1) := by decide +kernel
theorem dL_law_369 : decode cL_law 369 = .ok (.iconst 1, 1) := by decide +kernel
theorem dL_law_370 : decode cL_law 370 = .ok (.iadd, 1) := by decide +kernel
theorem dL_law_371 : decode cL_law 371 = .ok (.iaload, 1) := by decide +kernel
theorem dL_law_372 : decode cL_law 372 = .ok (.invokevirtual 63, 3) := by decide +kernel
theorem dL_law_375 : decode cL_law 375 = .ok (.if_icmp .eq 41, 3) := by decide +kernel
theorem dL_law_378 : decode cL_law 378 = .ok (.iconst 0, 1) := by decide +kernel
theorem dL_law_379 : decode cL_law 379 = .ok (.ireturn, 1) := by decide +kernel
theorem dL_law_380 : decode cL_law 380 = .ok (.aload_n 1, 1) := by decide +kernel
theorem dL_law_381 : decode cL_law 381 = .ok (.aload_n 0, 1) := by decide +kernel
theorem dL_law_382 : decode cL_law 382 = .ok (.iload_n 3, 1) := by decide +kernel
theorem dL_law_383 : decode cL_law 383 = .ok (.iconst 1, 1) := by decide +kernel
theorem dL_law_384 : decode cL_law 384 = .ok (.iadd, 1) := by decide +kernel
theorem dL_law_385 : decode cL_law 385 = .ok (.iaload, 1) := by decide +kernel
theorem dL_law_386 : decode cL_law 386 = .ok (.invokevirtual 64, 3) := by decide +kernel
theorem dL_law_389 : decode cL_law 389 = .ok (.aload_n 2, 1) := by decide +kernel
theorem dL_law_390 : decode cL_law 390 = .ok (.aload_n 0, 1) := by decide +kernel
theorem dL_law_391 : decode cL_law 391 = .ok (.iload_n 3, 1) := by decide +kernel
theorem dL_law_392 : decode cL_law 392 = .ok (.iconst 1, 1) := by decide +kernel
theorem dL_law_393 : decode cL_law 393 = .ok (.iadd, 1) := by decide +kernel
theorem dL_law_394 : decode cL_law 394 = .ok (.iaload, 1) := by decide +kernel
theorem dL_law_395 : decode cL_law 395 = .ok (.invokevirtual 67, 3) := by decide +kernel
theorem dL_law_398 : decode cL_law 398 = .ok (.if_icmp .eq 18, 3) := by decide +kernel
theorem dL_law_401 : decode cL_law 401 = .ok (.iconst 0, 1) := by decide +kernel
theorem dL_law_402 : decode cL_law 402 = .ok (.ireturn, 1) := by decide +kernel
theorem dL_law_403 : decode cL_law 403 = .ok (.aload_n 1, 1) := by decide +kernel
theorem dL_law_404 : decode cL_law 404 = .ok (.invokevirtual 68, 3) := by decide +kernel
theorem dL_law_407 : decode cL_law 407 = .ok (.aload_n 2, 1) := by decide +kernel
theorem dL_law_408 : decode cL_law 408 = .ok (.invokevirtual 71, 3) := by decide +kernel
theorem dL_law_411 : decode cL_law 411 = .ok (.if_icmp .eq 5, 3) := by decide +kernel
theorem dL_law_414 : decode cL_law 414 = .ok (.iconst 0, 1) := by decide +kernel
theorem dL_law_415 : decode cL_law 415 = .ok (.ireturn, 1) := by decide +kernel
theorem dL_law_416 : decode cL_law 416 = .ok (.iinc 3 3, 3) := by decide +kernel
theorem dL_law_419 : decode cL_law 419 = .ok (.goto (-401), 3) := by decide +kernel
theorem dL_law_422 : decode cL_law 422 = .ok (.iconst 1, 1) := by decide +kernel
theorem dL_law_423 : decode cL_law 423 = .ok (.ireturn, 1) := by decide +kernel
end
section
/-! my own layer over the kit: contracts of three kinds (reads only; writes and no answer; writes and an int), their entries, their calls; branches by whole numbers -/
set_option maxRecDepth 100000
abbrev vwCl : List vw_C := [(RX0, TX0, 10), (RX1, TX1, 7)]
def iI (z : Int) : Int32 := Int32.ofInt z
def bI (b : Bool) : Int32 := if b then 1 else 0
/-- a method that only reads: answers r with 'post r', no old cell changes -/
def mRO (l : Launch) (y : MethodName) (cd : ByteArray) (nL : Nat) (ty : FieldType) (rm : Room) (av : List Value) (D : va_G) (d : ClassId) (ws : va_W) (sz : Nat) (post : Int32 → Prop) : Prop :=
  Met l y (ws_ y cd nL (some ty)) rm (va_Pc av (fun U => U.heap.size = sz ∧ va_P D vwCl ws U.heap ∧ va_K D vwCl [(d, .int)] U)) (va_Qi (fun (r : Int32) (_ : Unit) => post r) (fun _ _ => True) (va_A [] sz)) 0 0 (va_A [] sz)
/-- a method that writes its world and answers nothing: 'post u', the world is then 'wd u' -/
def mVO (l : Launch) (y : MethodName) (cd : ByteArray) (nL : Nat) (rm : Room) (av : List Value) (D : va_G) (d : ClassId) (ws : va_W) (sz : Nat) {S : Type} (post : S → Prop) (wd : S → va_W) : Prop :=
  Met l y (ws_ y cd nL none) rm (va_Pc av (fun U => U.heap.size = sz ∧ va_P D vwCl ws U.heap ∧ va_K D vwCl [(d, .int)] U ∧ va_D (fun _ => True) ws)) (va_Qv post (fun u t => va_P D vwCl (wd u) t.heap ∧ va_D (va_A ws sz) (wd u)) (va_A ws sz)) 0 0 (va_A ws sz)
/-- a method that writes its world and answers an int -/
def mIO (l : Launch) (y : MethodName) (cd : ByteArray) (nL : Nat) (ty : FieldType) (rm : Room) (av : List Value) (D : va_G) (d : ClassId) (ws : va_W) (sz : Nat) {S : Type} (post : Int32 → S → Prop) (wd : S → va_W) : Prop :=
  Met l y (ws_ y cd nL (some ty)) rm (va_Pc av (fun U => U.heap.size = sz ∧ va_P D vwCl ws U.heap ∧ va_K D vwCl [(d, .int)] U ∧ va_D (fun _ => True) ws)) (va_Qi post (fun u t => va_P D vwCl (wd u) t.heap ∧ va_D (va_A ws sz) (wd u)) (va_A ws sz)) 0 0 (va_A ws sz)
theorem mRO.ofW {l : Launch} {y : MethodName} {cd : ByteArray} {nL : Nat} {ty : FieldType} {rm : Room} {av : List Value} {D : va_G} {d : ClassId} {ws : va_W} {sz : Nat} {post : Int32 → Prop} (hy : plainName y.cls = true) (hn : (lg_sl av).length ≤ nL)
    (body : ∀ (p : Program) (e : Env) (s : State) (m : MethodId) (args : Array Value) (below : List Frame) (meth : Method) (c : Code) (Q : State → Prop) (A : Nat → Prop) (ls : Array Slot), CallFix p m c cd nL s args lw_all y.cls → va_P D vwCl ws s.heap → va_K D vwCl [(d, .int)] s → (∀ q : Nat, s.heap.size ≤ q → A q) → va_S A s.heap s.heap [] → lv_has ls nL (lv_args 0 av) →
      (∀ (v : Int32) (H : Heap) (locs : List Loc) (pc : Nat) (ls : Array Slot), decode cd pc = .ok (.ireturn, 1) → narrow ty (.int v) = .int v → post v → va_S A s.heap H locs → W p l e rm s m args below meth c H locs 0 0 Q (F0 m pc ls [.int v])) →
      W p l e rm s m args below meth c s.heap [] 0 0 Q (F0 m 0 ls [])) : mRO l y cd nL ty rm av D d ws sz post := by
  refine Met.ofW (cc := cd) (maxL := nL) (ret := some ty) hy rfl ?_
  intro p e s m args below meth c s₁ B hml hv
  obtain ⟨rfl, hsz, hP, hK⟩ := hv
  subst hsz
  have hts := atoms_spec (ws := ws_ y cd nL (some ty)) B.pre
  have hts : ∀ w ∈ lw_all, w.before _ s = true := fun w h => hts w (List.mem_cons_of_mem _ h)
  have hown : s.vm.findClass y.cls = some m.cls := findClass_of_methodNamed B.named
  have hl := lv_entry av (n := nL) hn
  rw [lg_entry_eq]
  generalize (lg_sl av ++ List.replicate (nL - (lg_sl av).length) Slot.unset).toArray = ls at hl ⊢
  exact body p e s m _ below meth c _ (va_A [] s.heap.size) ls ⟨B.exec, B.bytes, hml, hown, hts⟩ hP hK (fun q h => Or.inr h) va_S.rf hl (fun v H locs pc ls hd hnar hp hS => W.zret B.exec B.bytes B.returns hnar (fun t ht hW => ⟨⟨v, (), rfl, hp, trivial⟩, hS.F ht⟩) hS.2.2 hd B.notSynchronized)
theorem mVO.ofW {l : Launch} {y : MethodName} {cd : ByteArray} {nL : Nat} {rm : Room} {av : List Value} {D : va_G} {d : ClassId} {ws : va_W} {sz : Nat} {S : Type} {post : S → Prop} {wd : S → va_W} (hy : plainName y.cls = true) (hn : (lg_sl av).length ≤ nL)
    (body : ∀ (p : Program) (e : Env) (s : State) (m : MethodId) (args : Array Value) (below : List Frame) (meth : Method) (c : Code) (Q : State → Prop) (A : Nat → Prop) (ls : Array Slot), CallFix p m c cd nL s args lw_all y.cls → va_P D vwCl ws s.heap → va_K D vwCl [(d, .int)] s → (∀ q : Nat, s.heap.size ≤ q → A q) → va_S A s.heap s.heap [] → lv_has ls nL (lv_args 0 av) → va_D A ws →
      (∀ (u : S) (H : Heap) (locs : List Loc) (pc : Nat) (ls : Array Slot), decode cd pc = .ok (.return_, 1) → post u → va_P D vwCl (wd u) H → va_D A (wd u) → va_S A s.heap H locs → W p l e rm s m args below meth c H locs 0 0 Q (F0 m pc ls [])) →
      W p l e rm s m args below meth c s.heap [] 0 0 Q (F0 m 0 ls [])) : mVO l y cd nL rm av D d ws sz post wd := by
  refine Met.ofW (cc := cd) (maxL := nL) (ret := none) hy rfl ?_
  intro p e s m args below meth c s₁ B hml hv
  obtain ⟨rfl, hsz, hP, hK, hD0⟩ := hv
  subst hsz
  have hts := atoms_spec (ws := ws_ y cd nL none) B.pre
  have hts : ∀ w ∈ lw_all, w.before _ s = true := fun w h => hts w (List.mem_cons_of_mem _ h)
  have hown : s.vm.findClass y.cls = some m.cls := findClass_of_methodNamed B.named
  have hl := lv_entry av (n := nL) hn
  rw [lg_entry_eq]
  generalize (lg_sl av ++ List.replicate (nL - (lg_sl av).length) Slot.unset).toArray = ls at hl ⊢
  exact body p e s m _ below meth c _ (va_A ws s.heap.size) ls ⟨B.exec, B.bytes, hml, hown, hts⟩ hP hK (fun q h => Or.inr h) va_S.rf hl (hD0.self (sz := s.heap.size)) (fun u H locs pc ls hd hp hP hD hS => W.vret B.exec B.bytes B.returns (fun t ht hW => ⟨⟨u, rfl, hp, by rw [ht]; exact hP, hD⟩, hS.F ht⟩) hS.2.2 hd B.notSynchronized)
theorem mIO.ofW {l : Launch} {y : MethodName} {cd : ByteArray} {nL : Nat} {ty : FieldType} {rm : Room} {av : List Value} {D : va_G} {d : ClassId} {ws : va_W} {sz : Nat} {S : Type} {post : Int32 → S → Prop} {wd : S → va_W} (hy : plainName y.cls = true) (hn : (lg_sl av).length ≤ nL)
    (body : ∀ (p : Program) (e : Env) (s : State) (m : MethodId) (args : Array Value) (below : List Frame) (meth : Method) (c : Code) (Q : State → Prop) (A : Nat → Prop) (ls : Array Slot), CallFix p m c cd nL s args lw_all y.cls → va_P D vwCl ws s.heap → va_K D vwCl [(d, .int)] s → (∀ q : Nat, s.heap.size ≤ q → A q) → va_S A s.heap s.heap [] → lv_has ls nL (lv_args 0 av) → va_D A ws →
      (∀ (v : Int32) (u : S) (H : Heap) (locs : List Loc) (pc : Nat) (ls : Array Slot), decode cd pc = .ok (.ireturn, 1) → narrow ty (.int v) = .int v → post v u → va_P D vwCl (wd u) H → va_D A (wd u) → va_S A s.heap H locs → W p l e rm s m args below meth c H locs 0 0 Q (F0 m pc ls [.int v])) →
      W p l e rm s m args below meth c s.heap [] 0 0 Q (F0 m 0 ls [])) : mIO l y cd nL ty rm av D d ws sz post wd := by
  refine Met.ofW (cc := cd) (maxL := nL) (ret := some ty) hy rfl ?_
  intro p e s m args below meth c s₁ B hml hv
  obtain ⟨rfl, hsz, hP, hK, hD0⟩ := hv
  subst hsz
  have hts := atoms_spec (ws := ws_ y cd nL (some ty)) B.pre
  have hts : ∀ w ∈ lw_all, w.before _ s = true := fun w h => hts w (List.mem_cons_of_mem _ h)
  have hown : s.vm.findClass y.cls = some m.cls := findClass_of_methodNamed B.named
  have hl := lv_entry av (n := nL) hn
  rw [lg_entry_eq]
  generalize (lg_sl av ++ List.replicate (nL - (lg_sl av).length) Slot.unset).toArray = ls at hl ⊢
  exact body p e s m _ below meth c _ (va_A ws s.heap.size) ls ⟨B.exec, B.bytes, hml, hown, hts⟩ hP hK (fun q h => Or.inr h) va_S.rf hl (hD0.self (sz := s.heap.size)) (fun v u H locs pc ls hd hnar hp hP hD hS => W.zret B.exec B.bytes B.returns hnar (fun t ht hW => ⟨⟨v, u, rfl, hp, by rw [ht]; exact hP, hD⟩, hS.F ht⟩) hS.2.2 hd B.notSynchronized)
theorem va_A_nil {sz q : Nat} (h : va_A [] sz q) : sz ≤ q := by
  rcases h with ⟨k, e, h⟩ | h
  · simp at h
  · exact h
theorem va_A_in {A : Nat → Prop} {ws : va_W} {sz q : Nat} (hD : va_D A ws) (hs : ∀ x : Nat, sz ≤ x → A x) (h : va_A ws sz q) : A q := by
  rcases h with ⟨k, e, h⟩ | h
  · exact hD.2 k _ h
  · exact hs q h
section XR
variable {p : Program} {l : Launch} {e : Env} {R : Room} {s : State} {m : MethodId} {args : Array Value} {below : List Frame} {meth : Method} {c : Code} {H : Heap} {locs : List Loc} {cells slots : Nat} {Q : State → Prop}
variable {pc : Nat} {ls : Array Slot} {rest st0 : List Value} {A : Nat → Prop} {H0 : Heap} {cc : ByteArray} {nL : Nat} {own : String}
variable {y : MethodName} {cd : ByteArray} {maxL : Nat} {ty : FieldType} {rm : Room} {D : va_G} {d : ClassId} {ws : va_W} {C : String} {index n b ci : Nat} {fs As : List Value} {T : u_T} {N : Nat}
/-- the top of the stack by another name -/
theorem tpi {x y : Int32} (h : x = y) (k : W p l e R s m args below meth c H locs cells slots Q (F0 m pc ls (.int y :: rest))) : W p l e R s m args below meth c H locs cells slots Q (F0 m pc ls (.int x :: rest)) := by rw [h]; exact k
/-- a call of a method that only reads -/
theorem cRO {post : Int32 → Prop} (S0 : CallFix p m c cc nL s args lw_all own) (hM : mRO l y cd maxL ty rm (Value.ref b :: As) D d ws H.size post) (cw : CallW R s args own C index y cd maxL (some ty) (ws_ y cd maxL (some ty)) rm 0 0 n) (hK : va_K D vwCl [(d, .int)] s) (hP : va_P D vwCl ws H) (hS : va_S A H0 H locs) (hA : ∀ q : Nat, H0.size ≤ q → A q)
    (he : ws[0]? = some (b, .inr (ci, fs))) (hc : vwCl[ci]? = some (C, T, N)) (hn : As.length = n) (hsize : ls.size = nL) (hst : st0 = As.reverse ++ .ref b :: rest) (hW : (rest.map fun v => v.category).sum ≤ 8) (hdg : decode cc pc = .ok (.invokevirtual index, 3)) (hf : cells ≤ R.cells ∧ slots ≤ R.slots)
    (kk : ∀ (r : Int32) (H1 : Heap) (locs1 : List Loc), post r → va_P D vwCl ws H1 → va_S A H0 H1 locs1 → W p l e R s m args below meth c H1 locs1 cells slots Q (F0 m (pc + 3) ls (.int r :: rest))) : W p l e R s m args below meth c H locs cells slots Q (F0 m pc ls st0) := by
  have hM' : Met l y (ws_ y cd maxL (some ty)) rm (va_Pc (Value.ref b :: As) (fun U => U.heap.size = H.size ∧ va_P D vwCl ws U.heap ∧ va_K D vwCl [(d, .int)] U)) (va_Qi (fun (r : Int32) (_ : Unit) => post r) (fun _ _ => True) (va_A [] H.size)) 0 0 (va_A [] H.size) := hM
  refine va_calli (va_runV (g := F0 m pc ls st0) (As := As) (rest := rest) S0 hM' cw ⟨fun a U g mk q => ?_, va_recv hK hP hc he, fun U hU hW => ⟨rfl, by rw [hU], by rw [hU]; exact hP, va_K.moved hW.alike hK⟩⟩ rfl hn hsize hst (lv_room hW) hdg hf) hS (fun q _ h => hA q (Nat.le_trans hS.1 (va_A_nil h))) (fun q h => hA q (Nat.le_trans hS.1 (va_A_nil h))) (fun r u t H1 locs1 ht hvm hp hB hz hk hS1 => ?_)
  · obtain ⟨q0, q1, qP, qK⟩ := q
    exact ⟨q0, q1, qP, va_K.moved (u := U) (U := U.calling g mk a) (Vm.Alike.refl U.vm) qK⟩
  · exact kk r H1 locs1 hp (hP.kept (fun k q hq => hk _ (hP k q hq).lt (fun h => absurd (va_A_nil h) (Nat.not_le.mpr (hP k q hq).lt)))) hS1
/-- a static call of a method that only reads: its world is empty -/
theorem cROs {post : Int32 → Prop} (S0 : CallFix p m c cc nL s args lw_all own) (hM : mRO l y cd maxL ty rm As D d [] H.size post) (cw : CallB R s args own index y cd maxL (some ty) (ws_ y cd maxL (some ty)) rm 0 0 n ∧ (Cond.static y).before args s = true) (hK : va_K D vwCl [(d, .int)] s) (hP : va_P D vwCl ws H) (hS : va_S A H0 H locs) (hA : ∀ q : Nat, H0.size ≤ q → A q)
    (hn : As.length = n) (hsize : ls.size = nL) (hst : st0 = As.reverse ++ rest) (hW : (rest.map fun v => v.category).sum ≤ 8) (hdg : decode cc pc = .ok (.invokestatic index, 3)) (hf : cells ≤ R.cells ∧ slots ≤ R.slots)
    (kk : ∀ (r : Int32) (H1 : Heap) (locs1 : List Loc), post r → va_P D vwCl ws H1 → va_S A H0 H1 locs1 → W p l e R s m args below meth c H1 locs1 cells slots Q (F0 m (pc + 3) ls (.int r :: rest))) : W p l e R s m args below meth c H locs cells slots Q (F0 m pc ls st0) := by
  have hM' : Met l y (ws_ y cd maxL (some ty)) rm (va_Pc As (fun U => U.heap.size = H.size ∧ va_P D vwCl [] U.heap ∧ va_K D vwCl [(d, .int)] U)) (va_Qi (fun (r : Int32) (_ : Unit) => post r) (fun _ _ => True) (va_A [] H.size)) 0 0 (va_A [] H.size) := hM
  refine va_calli (va_runS (g := F0 m pc ls st0) (As := As) (rest := rest) S0 hM' cw ⟨fun a U g mk q => ?_, fun U hU hW => ⟨rfl, by rw [hU], fun k q hq => by simp at hq, va_K.moved hW.alike hK⟩⟩ rfl hn hsize hst (lv_room hW) hdg hf) hS (fun q _ h => hA q (Nat.le_trans hS.1 (va_A_nil h))) (fun q h => hA q (Nat.le_trans hS.1 (va_A_nil h))) (fun r u t H1 locs1 ht hvm hp hB hz hk hS1 => ?_)
  · obtain ⟨q0, q1, qP, qK⟩ := q
    exact ⟨q0, q1, qP, va_K.moved (u := U) (U := U.calling g mk a) (Vm.Alike.refl U.vm) qK⟩
  · exact kk r H1 locs1 hp (hP.kept (fun k q hq => hk _ (hP k q hq).lt (fun h => absurd (va_A_nil h) (Nat.not_le.mpr (hP k q hq).lt)))) hS1
/-- a call of a method that writes its world (the caller's own whole world) and answers nothing -/
theorem cVO {S1 : Type} {post : S1 → Prop} {wd : S1 → va_W} (S0 : CallFix p m c cc nL s args lw_all own) (hM : mVO l y cd maxL rm (Value.ref b :: As) D d ws H.size post wd) (cw : CallW R s args own C index y cd maxL none (ws_ y cd maxL none) rm 0 0 n) (hK : va_K D vwCl [(d, .int)] s) (hP : va_P D vwCl ws H) (hD : va_D A ws) (hS : va_S A H0 H locs) (hA : ∀ q : Nat, H0.size ≤ q → A q)
    (he : ws[0]? = some (b, .inr (ci, fs))) (hc : vwCl[ci]? = some (C, T, N)) (hn : As.length = n) (hsize : ls.size = nL) (hst : st0 = As.reverse ++ .ref b :: rest) (hW : (rest.map fun v => v.category).sum ≤ 8) (hdg : decode cc pc = .ok (.invokevirtual index, 3)) (hf : cells ≤ R.cells ∧ slots ≤ R.slots)
    (kk : ∀ (u : S1) (H1 : Heap) (locs1 : List Loc), post u → va_P D vwCl (wd u) H1 → va_D A (wd u) → va_S A H0 H1 locs1 → W p l e R s m args below meth c H1 locs1 cells slots Q (F0 m (pc + 3) ls rest)) : W p l e R s m args below meth c H locs cells slots Q (F0 m pc ls st0) := by
  have hM' : Met l y (ws_ y cd maxL none) rm (va_Pc (Value.ref b :: As) (fun U => U.heap.size = H.size ∧ va_P D vwCl ws U.heap ∧ va_K D vwCl [(d, .int)] U ∧ va_D (fun _ => True) ws)) (va_Qv post (fun u t => va_P D vwCl (wd u) t.heap ∧ va_D (va_A ws H.size) (wd u)) (va_A ws H.size)) 0 0 (va_A ws H.size) := hM
  have hF : ∀ q : Nat, va_A ws H.size q → A q := fun q h => va_A_in hD (fun x hx => hA x (Nat.le_trans hS.1 hx)) h
  refine va_callv (va_runV (g := F0 m pc ls st0) (As := As) (rest := rest) S0 hM' cw ⟨fun a U g mk q => ?_, va_recv hK hP hc he, fun U hU hW => ⟨rfl, by rw [hU], by rw [hU]; exact hP, va_K.moved hW.alike hK, hD.weaken (fun _ _ _ _ => trivial)⟩⟩ rfl hn hsize hst (lv_room hW) hdg hf) hS (fun q _ h => hF q h) hF (fun u t H1 locs1 ht hvm hp hB hz hk hS1 => ?_)
  · obtain ⟨q0, q1, qP, qK, qD⟩ := q
    exact ⟨q0, q1, qP, va_K.moved (u := U) (U := U.calling g mk a) (Vm.Alike.refl U.vm) qK, qD⟩
  · obtain ⟨hP1, hD1⟩ := hB
    rw [ht] at hP1
    exact kk u H1 locs1 hp hP1 (hD1.weaken (fun _ _ _ h => hF _ h)) hS1
/-- a call of a method that writes its world (the caller's own whole world) and answers an int -/
theorem cIO {S1 : Type} {post : Int32 → S1 → Prop} {wd : S1 → va_W} (S0 : CallFix p m c cc nL s args lw_all own) (hM : mIO l y cd maxL ty rm (Value.ref b :: As) D d ws H.size post wd) (cw : CallW R s args own C index y cd maxL (some ty) (ws_ y cd maxL (some ty)) rm 0 0 n) (hK : va_K D vwCl [(d, .int)] s) (hP : va_P D vwCl ws H) (hD : va_D A ws) (hS : va_S A H0 H locs) (hA : ∀ q : Nat, H0.size ≤ q → A q)
    (he : ws[0]? = some (b, .inr (ci, fs))) (hc : vwCl[ci]? = some (C, T, N)) (hn : As.length = n) (hsize : ls.size = nL) (hst : st0 = As.reverse ++ .ref b :: rest) (hW : (rest.map fun v => v.category).sum ≤ 8) (hdg : decode cc pc = .ok (.invokevirtual index, 3)) (hf : cells ≤ R.cells ∧ slots ≤ R.slots)
    (kk : ∀ (r : Int32) (u : S1) (H1 : Heap) (locs1 : List Loc), post r u → va_P D vwCl (wd u) H1 → va_D A (wd u) → va_S A H0 H1 locs1 → W p l e R s m args below meth c H1 locs1 cells slots Q (F0 m (pc + 3) ls (.int r :: rest))) : W p l e R s m args below meth c H locs cells slots Q (F0 m pc ls st0) := by
  have hM' : Met l y (ws_ y cd maxL (some ty)) rm (va_Pc (Value.ref b :: As) (fun U => U.heap.size = H.size ∧ va_P D vwCl ws U.heap ∧ va_K D vwCl [(d, .int)] U ∧ va_D (fun _ => True) ws)) (va_Qi post (fun u t => va_P D vwCl (wd u) t.heap ∧ va_D (va_A ws H.size) (wd u)) (va_A ws H.size)) 0 0 (va_A ws H.size) := hM
  have hF : ∀ q : Nat, va_A ws H.size q → A q := fun q h => va_A_in hD (fun x hx => hA x (Nat.le_trans hS.1 hx)) h
  refine va_calli (va_runV (g := F0 m pc ls st0) (As := As) (rest := rest) S0 hM' cw ⟨fun a U g mk q => ?_, va_recv hK hP hc he, fun U hU hW => ⟨rfl, by rw [hU], by rw [hU]; exact hP, va_K.moved hW.alike hK, hD.weaken (fun _ _ _ _ => trivial)⟩⟩ rfl hn hsize hst (lv_room hW) hdg hf) hS (fun q _ h => hF q h) hF (fun r u t H1 locs1 ht hvm hp hB hz hk hS1 => ?_)
  · obtain ⟨q0, q1, qP, qK, qD⟩ := q
    exact ⟨q0, q1, qP, va_K.moved (u := U) (U := U.calling g mk a) (Vm.Alike.refl U.vm) qK, qD⟩
  · obtain ⟨hP1, hD1⟩ := hB
    rw [ht] at hP1
    exact kk r u H1 locs1 hp hP1 (hD1.weaken (fun _ _ _ h => hF _ h)) hS1
/-- an int of an array, at an index that is a natural number -/
theorem xald {cl : List vw_C} {tys : List (ClassId × FieldType)} {a : Nat} (hexec : p.tables.exec = Jvm.exec) (hb : c.code = cc) (hK : va_K D cl tys s) (hP : va_P D cl ws H) (q0 t0 : Nat) {cA : ClassId} {n : Nat} {f : Nat → Int32} (ha : ws[q0]? = some (a, .inl (cA, n, .inl f))) (ht : tys[t0]? = some (cA, .int)) {i : Int32} (j : Nat) (hi : i = nI j) (hj : j < n) (hn : n < 2 ^ 31) (hdg : decode cc pc = .ok (.iaload, 1))
    (kk : W p l e R s m args below meth c H locs cells slots Q (F0 m (pc + 1) ls (.int (f j) :: rest))) : W p l e R s m args below meth c H locs cells slots Q (F0 m pc ls (.int i :: .ref a :: rest)) := by
  subst hi
  refine va_iald hexec hb hK hP q0 t0 ha ht (vp_in_nI hj hn) hdg ?_
  rw [nI_clamp (Nat.lt_trans hj hn)]
  exact kk
theorem xast {cl : List vw_C} {tys : List (ClassId × FieldType)} {a : Nat} (hexec : p.tables.exec = Jvm.exec) (hb : c.code = cc) (hK : va_K D cl tys s) (hP : va_P D cl ws H) (hD : va_D A ws) (hS : va_S A H0 H locs) (q0 t0 : Nat) {cA : ClassId} {n : Nat} {f : Nat → Int32} (ha : ws[q0]? = some (a, .inl (cA, n, .inl f))) (ht : tys[t0]? = some (cA, .int)) {i x : Int32} (j : Nat) (hi : i = nI j) (hj : j < n) (hn : n < 2 ^ 31) (hdg : decode cc pc = .ok (.iastore, 1))
    (kk : ∀ (H1 : Heap) (locs1 : List Loc), va_P D cl (ws.set q0 (a, .inl (cA, n, .inl (upd f j x)))) H1 → va_D A (ws.set q0 (a, .inl (cA, n, .inl (upd f j x)))) → va_S A H0 H1 locs1 → W p l e R s m args below meth c H1 locs1 cells slots Q (F0 m (pc + 1) ls rest)) : W p l e R s m args below meth c H locs cells slots Q (F0 m pc ls (.int x :: .int i :: .ref a :: rest)) := by
  subst hi
  refine va_iast hexec hb hK hP hD hS q0 t0 ha ht (vp_in_nI hj hn) hdg ?_
  rw [nI_clamp (Nat.lt_trans hj hn)]
  exact kk
/-- branches by whole numbers -/
theorem z_eq (hexec : p.tables.exec = Jvm.exec) (hb : c.code = cc) {x y : Int32} {X Y off : Int} {tgt : Nat} (hdg : decode cc pc = .ok (.if_icmp .eq off, 3)) (ht : (pc : Int) + off = (tgt : Int)) (hx : x.toInt = X) (hy : y.toInt = Y)
    (k1 : X = Y → W p l e R s m args below meth c H locs cells slots Q (F0 m tgt ls rest)) (k2 : ¬ X = Y → W p l e R s m args below meth c H locs cells slots Q (F0 m (pc + 3) ls rest)) : W p l e R s m args below meth c H locs cells slots Q (F0 m pc ls (.int y :: .int x :: rest)) := by
  subst hx; subst hy
  exact lv_icmp_eq hexec hb hdg ht (fun h => k1 (by rw [h])) (fun h => k2 (fun q => h (Int32.toInt_inj.mp q)))
theorem z_ne (hexec : p.tables.exec = Jvm.exec) (hb : c.code = cc) {x y : Int32} {X Y off : Int} {tgt : Nat} (hdg : decode cc pc = .ok (.if_icmp .ne off, 3)) (ht : (pc : Int) + off = (tgt : Int)) (hx : x.toInt = X) (hy : y.toInt = Y)
    (k1 : ¬ X = Y → W p l e R s m args below meth c H locs cells slots Q (F0 m tgt ls rest)) (k2 : X = Y → W p l e R s m args below meth c H locs cells slots Q (F0 m (pc + 3) ls rest)) : W p l e R s m args below meth c H locs cells slots Q (F0 m pc ls (.int y :: .int x :: rest)) := by
  subst hx; subst hy
  exact lv_icmp_ne hexec hb hdg ht (fun h => k1 (fun q => h (Int32.toInt_inj.mp q))) (fun h => k2 (by rw [h]))
theorem z_lt (hexec : p.tables.exec = Jvm.exec) (hb : c.code = cc) {x y : Int32} {X Y off : Int} {tgt : Nat} (hdg : decode cc pc = .ok (.if_icmp .lt off, 3)) (ht : (pc : Int) + off = (tgt : Int)) (hx : x.toInt = X) (hy : y.toInt = Y)
    (k1 : X < Y → W p l e R s m args below meth c H locs cells slots Q (F0 m tgt ls rest)) (k2 : Y ≤ X → W p l e R s m args below meth c H locs cells slots Q (F0 m (pc + 3) ls rest)) : W p l e R s m args below meth c H locs cells slots Q (F0 m pc ls (.int y :: .int x :: rest)) := by
  subst hx; subst hy
  exact lv_icmp_lt hexec hb hdg ht (fun h => k1 (Int32.lt_iff_toInt_lt.mp h)) (fun h => k2 (Int.not_lt.mp (fun q => h (Int32.lt_iff_toInt_lt.mpr q))))
theorem z_ge (hexec : p.tables.exec = Jvm.exec) (hb : c.code = cc) {x y : Int32} {X Y off : Int} {tgt : Nat} (hdg : decode cc pc = .ok (.if_icmp .ge off, 3)) (ht : (pc : Int) + off = (tgt : Int)) (hx : x.toInt = X) (hy : y.toInt = Y)
    (k1 : Y ≤ X → W p l e R s m args below meth c H locs cells slots Q (F0 m tgt ls rest)) (k2 : X < Y → W p l e R s m args below meth c H locs cells slots Q (F0 m (pc + 3) ls rest)) : W p l e R s m args below meth c H locs cells slots Q (F0 m pc ls (.int y :: .int x :: rest)) := by
  subst hx; subst hy
  exact lv_icmp_ge hexec hb hdg ht (fun h => k1 (Int32.le_iff_toInt_le.mp h)) (fun h => k2 (Int.not_le.mp (fun q => h (Int32.le_iff_toInt_le.mpr q))))
theorem z_gt (hexec : p.tables.exec = Jvm.exec) (hb : c.code = cc) {x y : Int32} {X Y off : Int} {tgt : Nat} (hdg : decode cc pc = .ok (.if_icmp .gt off, 3)) (ht : (pc : Int) + off = (tgt : Int)) (hx : x.toInt = X) (hy : y.toInt = Y)
    (k1 : Y < X → W p l e R s m args below meth c H locs cells slots Q (F0 m tgt ls rest)) (k2 : X ≤ Y → W p l e R s m args below meth c H locs cells slots Q (F0 m (pc + 3) ls rest)) : W p l e R s m args below meth c H locs cells slots Q (F0 m pc ls (.int y :: .int x :: rest)) := by
  subst hx; subst hy
  exact lv_icmp_gt hexec hb hdg ht (fun h => k1 (Int32.lt_iff_toInt_lt.mp h)) (fun h => k2 (Int.not_lt.mp (fun q => h (Int32.lt_iff_toInt_lt.mpr q))))
theorem z_le (hexec : p.tables.exec = Jvm.exec) (hb : c.code = cc) {x y : Int32} {X Y off : Int} {tgt : Nat} (hdg : decode cc pc = .ok (.if_icmp .le off, 3)) (ht : (pc : Int) + off = (tgt : Int)) (hx : x.toInt = X) (hy : y.toInt = Y)
    (k1 : X ≤ Y → W p l e R s m args below meth c H locs cells slots Q (F0 m tgt ls rest)) (k2 : Y < X → W p l e R s m args below meth c H locs cells slots Q (F0 m (pc + 3) ls rest)) : W p l e R s m args below meth c H locs cells slots Q (F0 m pc ls (.int y :: .int x :: rest)) := by
  subst hx; subst hy
  exact lv_icmp_le hexec hb hdg ht (fun h => k1 (Int32.le_iff_toInt_le.mp h)) (fun h => k2 (Int.not_le.mp (fun q => h (Int32.le_iff_toInt_le.mpr q))))
theorem z0_eq (hexec : p.tables.exec = Jvm.exec) (hb : c.code = cc) {x : Int32} {X off : Int} {tgt : Nat} (hdg : decode cc pc = .ok (.ifCond .eq off, 3)) (ht : (pc : Int) + off = (tgt : Int)) (hx : x.toInt = X)
    (k1 : X = 0 → W p l e R s m args below meth c H locs cells slots Q (F0 m tgt ls rest)) (k2 : ¬ X = 0 → W p l e R s m args below meth c H locs cells slots Q (F0 m (pc + 3) ls rest)) : W p l e R s m args below meth c H locs cells slots Q (F0 m pc ls (.int x :: rest)) := by
  subst hx
  exact lv_if_eq hexec hb hdg ht (fun h => k1 (by rw [h]; rfl)) (fun h => k2 (fun q => h (Int32.toInt_inj.mp (q.trans rfl))))
theorem z0_ne (hexec : p.tables.exec = Jvm.exec) (hb : c.code = cc) {x : Int32} {X off : Int} {tgt : Nat} (hdg : decode cc pc = .ok (.ifCond .ne off, 3)) (ht : (pc : Int) + off = (tgt : Int)) (hx : x.toInt = X)
    (k1 : ¬ X = 0 → W p l e R s m args below meth c H locs cells slots Q (F0 m tgt ls rest)) (k2 : X = 0 → W p l e R s m args below meth c H locs cells slots Q (F0 m (pc + 3) ls rest)) : W p l e R s m args below meth c H locs cells slots Q (F0 m pc ls (.int x :: rest)) := by
  subst hx
  exact lv_if_ne hexec hb hdg ht (fun h => k1 (fun q => h (Int32.toInt_inj.mp (q.trans rfl)))) (fun h => k2 (by rw [h]; rfl))
theorem z0_lt (hexec : p.tables.exec = Jvm.exec) (hb : c.code = cc) {x : Int32} {X off : Int} {tgt : Nat} (hdg : decode cc pc = .ok (.ifCond .lt off, 3)) (ht : (pc : Int) + off = (tgt : Int)) (hx : x.toInt = X)
    (k1 : X < 0 → W p l e R s m args below meth c H locs cells slots Q (F0 m tgt ls rest)) (k2 : 0 ≤ X → W p l e R s m args below meth c H locs cells slots Q (F0 m (pc + 3) ls rest)) : W p l e R s m args below meth c H locs cells slots Q (F0 m pc ls (.int x :: rest)) := by
  subst hx
  exact lv_if_lt hexec hb hdg ht (fun h => k1 (Int32.lt_iff_toInt_lt.mp h)) (fun h => k2 (Int.not_lt.mp (fun q => h (Int32.lt_iff_toInt_lt.mpr q))))
theorem z0_ge (hexec : p.tables.exec = Jvm.exec) (hb : c.code = cc) {x : Int32} {X off : Int} {tgt : Nat} (hdg : decode cc pc = .ok (.ifCond .ge off, 3)) (ht : (pc : Int) + off = (tgt : Int)) (hx : x.toInt = X)
    (k1 : 0 ≤ X → W p l e R s m args below meth c H locs cells slots Q (F0 m tgt ls rest)) (k2 : X < 0 → W p l e R s m args below meth c H locs cells slots Q (F0 m (pc + 3) ls rest)) : W p l e R s m args below meth c H locs cells slots Q (F0 m pc ls (.int x :: rest)) := by
  subst hx
  exact lv_if_ge hexec hb hdg ht (fun h => k1 (Int32.le_iff_toInt_le.mp h)) (fun h => k2 (Int.not_le.mp (fun q => h (Int32.le_iff_toInt_le.mpr q))))
theorem z0_gt (hexec : p.tables.exec = Jvm.exec) (hb : c.code = cc) {x : Int32} {X off : Int} {tgt : Nat} (hdg : decode cc pc = .ok (.ifCond .gt off, 3)) (ht : (pc : Int) + off = (tgt : Int)) (hx : x.toInt = X)
    (k1 : 0 < X → W p l e R s m args below meth c H locs cells slots Q (F0 m tgt ls rest)) (k2 : X ≤ 0 → W p l e R s m args below meth c H locs cells slots Q (F0 m (pc + 3) ls rest)) : W p l e R s m args below meth c H locs cells slots Q (F0 m pc ls (.int x :: rest)) := by
  subst hx
  exact lv_if_gt hexec hb hdg ht (fun h => k1 (Int32.lt_iff_toInt_lt.mp h)) (fun h => k2 (Int.not_lt.mp (fun q => h (Int32.lt_iff_toInt_lt.mpr q))))
theorem z0_le (hexec : p.tables.exec = Jvm.exec) (hb : c.code = cc) {x : Int32} {X off : Int} {tgt : Nat} (hdg : decode cc pc = .ok (.ifCond .le off, 3)) (ht : (pc : Int) + off = (tgt : Int)) (hx : x.toInt = X)
    (k1 : X ≤ 0 → W p l e R s m args below meth c H locs cells slots Q (F0 m tgt ls rest)) (k2 : 0 < X → W p l e R s m args below meth c H locs cells slots Q (F0 m (pc + 3) ls rest)) : W p l e R s m args below meth c H locs cells slots Q (F0 m pc ls (.int x :: rest)) := by
  subst hx
  exact lv_if_le hexec hb hdg ht (fun h => k1 (Int32.le_iff_toInt_le.mp h)) (fun h => k2 (Int.not_le.mp (fun q => h (Int32.le_iff_toInt_le.mpr q))))
end XR
end
section
/-! the plain words: codes, digits, sums, parts -/
set_option maxRecDepth 100000
def pw : Nat → Nat
  | 0 => 2401
  | 1 => 343
  | 2 => 49
  | 3 => 7
  | _ => 1
/-- the i-th number of the row with this code -/
def dg (c i : Nat) : Nat := c / pw i % 7
def smk (w : Nat → Int) (c : Nat) : Nat → Int
  | 0 => 0
  | k + 1 => smk w c k + (dg c k : Int) * w k
/-- what a row weighs -/
def sm (w : Nat → Int) (c : Nat) : Int := smk w c 5
def szk (c : Nat) : Nat → Nat
  | 0 => 0
  | k + 1 => szk c k + dg c k
/-- a row's size -/
def sz (c : Nat) : Nat := szk c 5
def ptk (a b : Nat) : Nat → Bool
  | 0 => true
  | k + 1 => ptk a b k && decide (dg a k ≤ dg b k)
/-- a is part of b -/
def pt (a b : Nat) : Bool := ptk a b 5
/-- one of the list is part of c -/
def hp (l : List Nat) (c : Nat) : Bool := l.any (fun a => pt a c)
/-- the weights at hand -/
def okw (w : Nat → Int) : Prop := ∀ i, i < 5 → -6 ≤ w i ∧ w i ≤ 6
theorem dg0 (c : Nat) : dg c 0 = c / 2401 % 7 := rfl
theorem dg1 (c : Nat) : dg c 1 = c / 343 % 7 := rfl
theorem dg2 (c : Nat) : dg c 2 = c / 49 % 7 := rfl
theorem dg3 (c : Nat) : dg c 3 = c / 7 % 7 := rfl
theorem dg4 (c : Nat) : dg c 4 = c % 7 := by
  show c / 1 % 7 = c % 7
  rw [Nat.div_one]
theorem dg_lt (c i : Nat) : dg c i < 7 := Nat.mod_lt _ (by decide)
theorem sm_eq (w : Nat → Int) (c : Nat) : sm w c = (dg c 0 : Int) * w 0 + (dg c 1 : Int) * w 1 + (dg c 2 : Int) * w 2 + (dg c 3 : Int) * w 3 + (dg c 4 : Int) * w 4 := by
  simp only [sm, smk, Int.zero_add]
theorem sz_eq (c : Nat) : sz c = dg c 0 + dg c 1 + dg c 2 + dg c 3 + dg c 4 := by
  simp only [sz, szk, Nat.zero_add]
theorem pt_iff (a b : Nat) : pt a b = true ↔ dg a 0 ≤ dg b 0 ∧ dg a 1 ≤ dg b 1 ∧ dg a 2 ≤ dg b 2 ∧ dg a 3 ≤ dg b 3 ∧ dg a 4 ≤ dg b 4 := by
  simp only [pt, ptk, Bool.true_and, Bool.and_eq_true, decide_eq_true_eq, and_assoc]
theorem ptk_le {a b : Nat} : ∀ {k i : Nat}, ptk a b k = true → i < k → dg a i ≤ dg b i
  | 0, i, _, h => absurd h (by omega)
  | k + 1, i, h, hi => by
    simp only [ptk, Bool.and_eq_true, decide_eq_true_eq] at h
    rcases Nat.lt_or_ge i k with q | q
    · exact ptk_le h.1 q
    · have : i = k := by omega
      subst this
      exact h.2
/-- a code out of its numbers -/
theorem dec5 {c : Nat} (h : c < 16807) : c = 2401 * dg c 0 + 343 * dg c 1 + 49 * dg c 2 + 7 * dg c 3 + dg c 4 := by
  rw [dg0, dg1, dg2, dg3, dg4]
  omega
theorem enc5 {a b c d e : Nat} (ha : a < 7) (hb : b < 7) (hc : c < 7) (hd : d < 7) (he : e < 7) : 2401 * a + 343 * b + 49 * c + 7 * d + e < 16807 ∧ dg (2401 * a + 343 * b + 49 * c + 7 * d + e) 0 = a ∧ dg (2401 * a + 343 * b + 49 * c + 7 * d + e) 1 = b ∧ dg (2401 * a + 343 * b + 49 * c + 7 * d + e) 2 = c ∧ dg (2401 * a + 343 * b + 49 * c + 7 * d + e) 3 = d ∧ dg (2401 * a + 343 * b + 49 * c + 7 * d + e) 4 = e := by
  rw [dg0, dg1, dg2, dg3, dg4]
  refine ⟨?_, ?_, ?_, ?_, ?_, ?_⟩ <;> omega
theorem dg_ext {a b : Nat} (ha : a < 16807) (hb : b < 16807) (h0 : dg a 0 = dg b 0) (h1 : dg a 1 = dg b 1) (h2 : dg a 2 = dg b 2) (h3 : dg a 3 = dg b 3) (h4 : dg a 4 = dg b 4) : a = b := by
  rw [dec5 ha, dec5 hb, h0, h1, h2, h3, h4]
theorem pt_refl (a : Nat) : pt a a = true := (pt_iff a a).mpr ⟨Nat.le_refl _, Nat.le_refl _, Nat.le_refl _, Nat.le_refl _, Nat.le_refl _⟩
theorem pt_trans {a b c : Nat} (h : pt a b = true) (h2 : pt b c = true) : pt a c = true := by
  rw [pt_iff] at *
  omega
theorem pt_anti {a b : Nat} (ha : a < 16807) (hb : b < 16807) (h : pt a b = true) (h2 : pt b a = true) : a = b := by
  rw [pt_iff] at *
  exact dg_ext ha hb (by omega) (by omega) (by omega) (by omega) (by omega)
theorem pt_le {a b : Nat} (ha : a < 16807) (hb : b < 16807) (h : pt a b = true) : a ≤ b := by
  rw [pt_iff] at h
  rw [dec5 ha, dec5 hb]
  omega
/-- a part taken off -/
theorem pt_sub {a b : Nat} (ha : a < 16807) (hb : b < 16807) (h : pt a b = true) : b - a < 16807 ∧ dg (b - a) 0 = dg b 0 - dg a 0 ∧ dg (b - a) 1 = dg b 1 - dg a 1 ∧ dg (b - a) 2 = dg b 2 - dg a 2 ∧ dg (b - a) 3 = dg b 3 - dg a 3 ∧ dg (b - a) 4 = dg b 4 - dg a 4 := by
  rw [pt_iff] at h
  have e : b - a = 2401 * (dg b 0 - dg a 0) + 343 * (dg b 1 - dg a 1) + 49 * (dg b 2 - dg a 2) + 7 * (dg b 3 - dg a 3) + (dg b 4 - dg a 4) := by
    have q1 := dec5 ha
    have q2 := dec5 hb
    omega
  have l0 := dg_lt b 0
  have l1 := dg_lt b 1
  have l2 := dg_lt b 2
  have l3 := dg_lt b 3
  have l4 := dg_lt b 4
  have q := enc5 (a := dg b 0 - dg a 0) (b := dg b 1 - dg a 1) (c := dg b 2 - dg a 2) (d := dg b 3 - dg a 3) (e := dg b 4 - dg a 4) (by omega) (by omega) (by omega) (by omega) (by omega)
  rw [← e] at q
  exact q
theorem sm_sub {w : Nat → Int} {a b : Nat} (ha : a < 16807) (hb : b < 16807) (h : pt a b = true) : sm w (b - a) = sm w b - sm w a := by
  obtain ⟨-, e0, e1, e2, e3, e4⟩ := pt_sub ha hb h
  rw [pt_iff] at h
  rw [sm_eq, sm_eq, sm_eq, e0, e1, e2, e3, e4, Int.ofNat_sub h.1, Int.ofNat_sub h.2.1, Int.ofNat_sub h.2.2.1, Int.ofNat_sub h.2.2.2.1, Int.ofNat_sub h.2.2.2.2]
  simp only [Int.sub_mul]
  omega
theorem sz_sub {a b : Nat} (ha : a < 16807) (hb : b < 16807) (h : pt a b = true) : sz (b - a) = sz b - sz a ∧ sz a ≤ sz b := by
  obtain ⟨-, e0, e1, e2, e3, e4⟩ := pt_sub ha hb h
  rw [pt_iff] at h
  rw [sz_eq, sz_eq, sz_eq, e0, e1, e2, e3, e4]
  omega
theorem sz_pos {a : Nat} (ha : a < 16807) (h : 0 < a) : 0 < sz a := by
  rw [sz_eq]
  have := dec5 ha
  omega
theorem sz_le (a : Nat) : sz a ≤ 30 := by
  rw [sz_eq]
  have l0 := dg_lt a 0
  have l1 := dg_lt a 1
  have l2 := dg_lt a 2
  have l3 := dg_lt a 3
  have l4 := dg_lt a 4
  omega
theorem pt_szeq {a b : Nat} (ha : a < 16807) (hb : b < 16807) (h : pt a b = true) (e : sz a = sz b) : a = b := by
  rw [pt_iff] at h
  rw [sz_eq, sz_eq] at e
  exact dg_ext ha hb (by omega) (by omega) (by omega) (by omega) (by omega)
theorem dg_0 (i : Nat) : dg 0 i = 0 := by
  unfold dg
  rw [Nat.zero_div]
theorem sm_0 (w : Nat → Int) : sm w 0 = 0 := by
  rw [sm_eq, dg_0, dg_0, dg_0, dg_0, dg_0]
  simp
theorem sz_0 : sz 0 = 0 := by
  rw [sz_eq, dg_0, dg_0, dg_0, dg_0, dg_0]
theorem pt_zero {a : Nat} (ha : a < 16807) (h : pt a 0 = true) : a = 0 := by
  have := pt_le ha (by decide) h
  omega
/-- one unit more -/
theorem add1 {c i : Nat} (hc : c < 16807) (hi : i < 5) (h : dg c i < 6) : c + pw i < 16807 ∧ ∀ j, j < 5 → dg (c + pw i) j = dg c j + (if j = i then 1 else 0) := by
  have l0 := dg_lt c 0
  have l1 := dg_lt c 1
  have l2 := dg_lt c 2
  have l3 := dg_lt c 3
  have l4 := dg_lt c 4
  have e := dec5 hc
  have hi' : i = 0 ∨ i = 1 ∨ i = 2 ∨ i = 3 ∨ i = 4 := by omega
  rcases hi' with rfl | rfl | rfl | rfl | rfl
  · have q := enc5 (a := dg c 0 + 1) (b := dg c 1) (c := dg c 2) (d := dg c 3) (e := dg c 4) (by omega) (by omega) (by omega) (by omega) (by omega)
    have e2 : c + pw 0 = 2401 * (dg c 0 + 1) + 343 * dg c 1 + 49 * dg c 2 + 7 * dg c 3 + dg c 4 := by
      show c + 2401 = _
      omega
    rw [← e2] at q
    refine ⟨q.1, fun j hj => ?_⟩
    have hj' : j = 0 ∨ j = 1 ∨ j = 2 ∨ j = 3 ∨ j = 4 := by omega
    rcases hj' with rfl | rfl | rfl | rfl | rfl <;> simp [q]
  · have q := enc5 (a := dg c 0) (b := dg c 1 + 1) (c := dg c 2) (d := dg c 3) (e := dg c 4) (by omega) (by omega) (by omega) (by omega) (by omega)
    have e2 : c + pw 1 = 2401 * dg c 0 + 343 * (dg c 1 + 1) + 49 * dg c 2 + 7 * dg c 3 + dg c 4 := by
      show c + 343 = _
      omega
    rw [← e2] at q
    refine ⟨q.1, fun j hj => ?_⟩
    have hj' : j = 0 ∨ j = 1 ∨ j = 2 ∨ j = 3 ∨ j = 4 := by omega
    rcases hj' with rfl | rfl | rfl | rfl | rfl <;> simp [q]
  · have q := enc5 (a := dg c 0) (b := dg c 1) (c := dg c 2 + 1) (d := dg c 3) (e := dg c 4) (by omega) (by omega) (by omega) (by omega) (by omega)
    have e2 : c + pw 2 = 2401 * dg c 0 + 343 * dg c 1 + 49 * (dg c 2 + 1) + 7 * dg c 3 + dg c 4 := by
      show c + 49 = _
      omega
    rw [← e2] at q
    refine ⟨q.1, fun j hj => ?_⟩
    have hj' : j = 0 ∨ j = 1 ∨ j = 2 ∨ j = 3 ∨ j = 4 := by omega
    rcases hj' with rfl | rfl | rfl | rfl | rfl <;> simp [q]
  · have q := enc5 (a := dg c 0) (b := dg c 1) (c := dg c 2) (d := dg c 3 + 1) (e := dg c 4) (by omega) (by omega) (by omega) (by omega) (by omega)
    have e2 : c + pw 3 = 2401 * dg c 0 + 343 * dg c 1 + 49 * dg c 2 + 7 * (dg c 3 + 1) + dg c 4 := by
      show c + 7 = _
      omega
    rw [← e2] at q
    refine ⟨q.1, fun j hj => ?_⟩
    have hj' : j = 0 ∨ j = 1 ∨ j = 2 ∨ j = 3 ∨ j = 4 := by omega
    rcases hj' with rfl | rfl | rfl | rfl | rfl <;> simp [q]
  · have q := enc5 (a := dg c 0) (b := dg c 1) (c := dg c 2) (d := dg c 3) (e := dg c 4 + 1) (by omega) (by omega) (by omega) (by omega) (by omega)
    have e2 : c + pw 4 = 2401 * dg c 0 + 343 * dg c 1 + 49 * dg c 2 + 7 * dg c 3 + (dg c 4 + 1) := by
      show c + 1 = _
      omega
    rw [← e2] at q
    refine ⟨q.1, fun j hj => ?_⟩
    have hj' : j = 0 ∨ j = 1 ∨ j = 2 ∨ j = 3 ∨ j = 4 := by omega
    rcases hj' with rfl | rfl | rfl | rfl | rfl <;> simp [q]
theorem add1_sz {c i : Nat} (hc : c < 16807) (hi : i < 5) (h : dg c i < 6) : sz (c + pw i) = sz c + 1 := by
  obtain ⟨-, q⟩ := add1 hc hi h
  rw [sz_eq, sz_eq, q 0 (by decide), q 1 (by decide), q 2 (by decide), q 3 (by decide), q 4 (by decide)]
  have hi' : i = 0 ∨ i = 1 ∨ i = 2 ∨ i = 3 ∨ i = 4 := by omega
  rcases hi' with rfl | rfl | rfl | rfl | rfl <;> simp <;> omega
/-- a part with one unit more is still a part, where the whole has more -/
theorem add1_pt {c v i : Nat} (hc : c < 16807) (hi : i < 5) (h : pt c v = true) (hv : dg c i < dg v i) : pt (c + pw i) v = true := by
  have l := dg_lt v i
  obtain ⟨-, q⟩ := add1 hc hi (by omega)
  rw [pt_iff] at *
  rw [q 0 (by decide), q 1 (by decide), q 2 (by decide), q 3 (by decide), q 4 (by decide)]
  have hi' : i = 0 ∨ i = 1 ∨ i = 2 ∨ i = 3 ∨ i = 4 := by omega
  rcases hi' with rfl | rfl | rfl | rfl | rfl <;> simp <;> omega
theorem hp_iff {l : List Nat} {c : Nat} : hp l c = true ↔ ∃ a, a ∈ l ∧ pt a c = true := by
  simp only [hp, List.any_eq_true]
theorem sm_bound {w : Nat → Int} (hw : okw w) (c : Nat) : -180 ≤ sm w c ∧ sm w c ≤ 180 := by
  have key : ∀ i, i < 5 → -36 ≤ (dg c i : Int) * w i ∧ (dg c i : Int) * w i ≤ 36 := by
    intro i hi
    obtain ⟨a, b⟩ := hw i hi
    have l := dg_lt c i
    generalize dg c i = x at l
    have hx : x = 0 ∨ x = 1 ∨ x = 2 ∨ x = 3 ∨ x = 4 ∨ x = 5 ∨ x = 6 := by omega
    rcases hx with rfl | rfl | rfl | rfl | rfl | rfl | rfl <;> simp <;> omega
  have k0 := key 0 (by decide)
  have k1 := key 1 (by decide)
  have k2 := key 2 (by decide)
  have k3 := key 3 (by decide)
  have k4 := key 4 (by decide)
  rw [sm_eq]
  omega
end
section
/-! least balances: there are at most 343; what refresh and what work find -/
set_option maxRecDepth 100000
/-- c is a least balance -/
def lst (w : Nat → Int) (c : Nat) : Prop := 0 < c ∧ c < 16807 ∧ sm w c = 0 ∧ ∀ d, 0 < d → d < 16807 → pt d c = true → sm w d = 0 → d = c
noncomputable def lsb (w : Nat → Int) (c : Nat) : Bool := @decide (lst w c) (Classical.propDecidable _)
theorem lsb_iff {w : Nat → Int} {c : Nat} : lsb w c = true ↔ lst w c := by
  unfold lsb
  exact @decide_eq_true_iff _ (Classical.propDecidable _)
/-- the least balances in rising order -/
noncomputable def LL (w : Nat → Int) : List Nat := (List.range 16807).filter (lsb w)
theorem mem_LL {w : Nat → Int} {c : Nat} : c ∈ LL w ↔ lst w c := by
  unfold LL
  rw [List.mem_filter, lsb_iff, List.mem_range]
  exact ⟨fun h => h.2, fun h => ⟨h.2.1, h⟩⟩
theorem LL_sorted (w : Nat → Int) : (LL w).Pairwise (· < ·) := List.Pairwise.filter _ List.pairwise_lt_range
theorem lt_nodup {l : List Nat} (h : l.Pairwise (· < ·)) : l.Nodup := List.Pairwise.imp (fun h => Nat.ne_of_lt h) h
theorem LL_nodup (w : Nat → Int) : (LL w).Nodup := lt_nodup (LL_sorted w)
theorem lst_under {w : Nat → Int} : ∀ (n c : Nat), c ≤ n → 0 < c → c < 16807 → sm w c = 0 → ∃ v, lst w v ∧ pt v c = true := by
  intro n
  induction n with
  | zero => intro c h1 h2; omega
  | succ n ih =>
    intro c h1 h2 h3 h4
    by_cases h : ∃ d, 0 < d ∧ d < 16807 ∧ pt d c = true ∧ sm w d = 0 ∧ d ≠ c
    · obtain ⟨d, a1, a2, a3, a4, a5⟩ := h
      have := pt_le a2 h3 a3
      obtain ⟨v, b1, b2⟩ := ih d (by omega) a1 a2 a4
      exact ⟨v, b1, pt_trans b2 a3⟩
    · refine ⟨c, ⟨h2, h3, h4, fun d a1 a2 a3 a4 => ?_⟩, pt_refl c⟩
      exact Classical.byContradiction (fun q => h ⟨d, a1, a2, a3, a4, q⟩)
theorem nodup_len (f : Nat → Nat) : ∀ (l l' : List Nat), l.Nodup → (∀ x, x ∈ l → f x ∈ l') → (∀ x, x ∈ l → ∀ y, y ∈ l → f x = f y → x = y) → l.length ≤ l'.length
  | [], _, _, _, _ => Nat.zero_le _
  | a :: t, l', h, hs, hi => by
    have ha := hs a List.mem_cons_self
    rw [List.nodup_cons] at h
    have q := nodup_len f t (l'.erase (f a)) h.2 (fun x hx => (List.mem_erase_of_ne (fun e => h.1 ((hi x (List.mem_cons_of_mem _ hx) a List.mem_cons_self e) ▸ hx))).mpr (hs x (List.mem_cons_of_mem _ hx))) (fun x hx y hy e => hi x (List.mem_cons_of_mem _ hx) y (List.mem_cons_of_mem _ hy) e)
    rw [List.length_erase_of_mem ha] at q
    have := List.length_pos_of_mem ha
    simp only [List.length_cons]
    omega
theorem opp_s {x y a b : Int} (hw : (a ≤ 0 ∧ 0 ≤ b ∨ 0 ≤ a ∧ b ≤ 0) ∧ ¬ (a = 0 ∧ b = 0)) (hx : 0 < x) (hy : 0 < y) (e : x * a = y * b) : False := by
  obtain ⟨h, n⟩ := hw
  rcases Int.lt_trichotomy a 0 with ha | ha | ha
  · have h1 := Int.mul_neg_of_pos_of_neg hx ha
    have hb : 0 ≤ b := by omega
    have h2 := Int.mul_nonneg (Int.le_of_lt hy) hb
    omega
  · subst ha
    rcases Int.lt_trichotomy b 0 with hb | hb | hb
    · have h2 := Int.mul_neg_of_pos_of_neg hy hb
      rw [Int.mul_zero] at e
      omega
    · exact n ⟨rfl, hb⟩
    · have h2 := Int.mul_pos hy hb
      rw [Int.mul_zero] at e
      omega
  · have h1 := Int.mul_pos hx ha
    rcases Int.lt_trichotomy b 0 with hb | hb | hb
    · have h2 := Int.mul_neg_of_pos_of_neg hy hb
      omega
    · subst hb
      rw [Int.mul_zero] at e
      omega
    · omega
theorem pair_inj {w : Nat → Int} {i j a b k : Nat} (hs : ∀ c, sm w c = (dg c a : Int) * w a + (dg c b : Int) * w b + (dg c k : Int) * w k + (dg c i : Int) * w i + (dg c j : Int) * w j) (hq : ∀ x y, (dg x a ≤ dg y a ∧ dg x b ≤ dg y b ∧ dg x k ≤ dg y k ∧ dg x i ≤ dg y i ∧ dg x j ≤ dg y j) → pt x y = true) (hw : (w i ≤ 0 ∧ 0 ≤ w j ∨ 0 ≤ w i ∧ w j ≤ 0) ∧ ¬ (w i = 0 ∧ w j = 0)) {u v : Nat} (hu : lst w u) (hv : lst w v) (ea : dg u a = dg v a) (eb : dg u b = dg v b) (ek : dg u k = dg v k) : u = v := by
  have su := hs u
  have sv := hs v
  rw [hu.2.2.1, ea, eb, ek] at su
  rw [hv.2.2.1] at sv
  have e : (dg u i : Int) * w i + (dg u j : Int) * w j = (dg v i : Int) * w i + (dg v j : Int) * w j := by omega
  have up : dg u i ≤ dg v i → dg u j ≤ dg v j → u = v := fun h1 h2 => hv.2.2.2 u hu.1 hu.2.1 (hq u v ⟨by omega, by omega, by omega, h1, h2⟩) hu.2.2.1
  have dn : dg v i ≤ dg u i → dg v j ≤ dg u j → u = v := fun h1 h2 => (hu.2.2.2 v hv.1 hv.2.1 (hq v u ⟨by omega, by omega, by omega, h1, h2⟩) hv.2.2.1).symm
  rcases Nat.lt_trichotomy (dg u i) (dg v i) with h1 | h1 | h1
  · rcases Nat.lt_or_ge (dg v j) (dg u j) with h2 | h2
    · exfalso
      refine opp_s (x := (dg v i : Int) - dg u i) (y := (dg u j : Int) - dg v j) hw (by omega) (by omega) ?_
      rw [Int.sub_mul, Int.sub_mul]
      omega
    · exact up (by omega) h2
  · rcases Nat.le_total (dg u j) (dg v j) with h2 | h2
    · exact up (by omega) h2
    · exact dn (by omega) h2
  · rcases Nat.lt_or_ge (dg u j) (dg v j) with h2 | h2
    · exfalso
      refine opp_s (x := (dg u i : Int) - dg v i) (y := (dg v j : Int) - dg u j) hw (by omega) (by omega) ?_
      rw [Int.sub_mul, Int.sub_mul]
      omega
    · exact dn (by omega) h2
theorem pair_len {w : Nat → Int} {i j a b k : Nat} (hs : ∀ c, sm w c = (dg c a : Int) * w a + (dg c b : Int) * w b + (dg c k : Int) * w k + (dg c i : Int) * w i + (dg c j : Int) * w j) (hq : ∀ x y, (dg x a ≤ dg y a ∧ dg x b ≤ dg y b ∧ dg x k ≤ dg y k ∧ dg x i ≤ dg y i ∧ dg x j ≤ dg y j) → pt x y = true) (hw : (w i ≤ 0 ∧ 0 ≤ w j ∨ 0 ≤ w i ∧ w j ≤ 0) ∧ ¬ (w i = 0 ∧ w j = 0)) {l : List Nat} (hn : l.Nodup) (hl : ∀ c, c ∈ l → lst w c) : l.length ≤ 343 := by
  have q := nodup_len (fun c => 49 * dg c a + 7 * dg c b + dg c k) l (List.range 343) hn (fun x _ => by
      have := dg_lt x a
      have := dg_lt x b
      have := dg_lt x k
      rw [List.mem_range]
      omega) (fun x hx y hy e => by
      have := dg_lt x a
      have := dg_lt x b
      have := dg_lt x k
      have := dg_lt y a
      have := dg_lt y b
      have := dg_lt y k
      have e : 49 * dg x a + 7 * dg x b + dg x k = 49 * dg y a + 7 * dg y b + dg y k := e
      exact pair_inj hs hq hw (hl x hx) (hl y hy) (by omega) (by omega) (by omega))
  rw [List.length_range] at q
  exact q
theorem dg_unit {c i : Nat} (hi : i < 5) (h : 0 < dg c i) : pt (pw i) c = true := by
  rw [pt_iff]
  have hi' : i = 0 ∨ i = 1 ∨ i = 2 ∨ i = 3 ∨ i = 4 := by omega
  rcases hi' with rfl | rfl | rfl | rfl | rfl
  · refine ⟨?_, ?_, ?_, ?_, ?_⟩ <;> first | exact Nat.zero_le _ | exact h
  · refine ⟨?_, ?_, ?_, ?_, ?_⟩ <;> first | exact Nat.zero_le _ | exact h
  · refine ⟨?_, ?_, ?_, ?_, ?_⟩ <;> first | exact Nat.zero_le _ | exact h
  · refine ⟨?_, ?_, ?_, ?_, ?_⟩ <;> first | exact Nat.zero_le _ | exact h
  · refine ⟨?_, ?_, ?_, ?_, ?_⟩ <;> first | exact Nat.zero_le _ | exact h
theorem some_dg {c : Nat} (h : c < 16807) (h0 : 0 < c) : ∃ i, i < 5 ∧ 0 < dg c i := by
  have e := dec5 h
  by_cases h0 : 0 < dg c 0
  · exact ⟨0, by decide, h0⟩
  by_cases h1 : 0 < dg c 1
  · exact ⟨1, by decide, h1⟩
  by_cases h2 : 0 < dg c 2
  · exact ⟨2, by decide, h2⟩
  by_cases h3 : 0 < dg c 3
  · exact ⟨3, by decide, h3⟩
  by_cases h4 : 0 < dg c 4
  · exact ⟨4, by decide, h4⟩
  omega
theorem sm_unit {w : Nat → Int} {i : Nat} (hi : i < 5) : sm w (pw i) = w i := by
  rw [sm_eq]
  have hi' : i = 0 ∨ i = 1 ∨ i = 2 ∨ i = 3 ∨ i = 4 := by omega
  rcases hi' with rfl | rfl | rfl | rfl | rfl <;> simp [dg, pw]
theorem sm_pos {w : Nat → Int} {c : Nat} (hw : ∀ i, i < 5 → 0 < dg c i → 0 < w i) (h : ∃ i, i < 5 ∧ 0 < dg c i) : 0 < sm w c := by
  have key : ∀ i, i < 5 → 0 ≤ (dg c i : Int) * w i ∧ (0 < dg c i → 0 < (dg c i : Int) * w i) := by
    intro i hi
    by_cases q : 0 < dg c i
    · have h1 : 0 < (dg c i : Int) * w i := Int.mul_pos (by omega) (hw i hi q)
      exact ⟨Int.le_of_lt h1, fun _ => h1⟩
    · have : dg c i = 0 := by omega
      rw [this]
      simp
  have k0 := key 0 (by decide)
  have k1 := key 1 (by decide)
  have k2 := key 2 (by decide)
  have k3 := key 3 (by decide)
  have k4 := key 4 (by decide)
  obtain ⟨i, hi, hd⟩ := h
  have kk := (key i hi).2 hd
  rw [sm_eq]
  have hi' : i = 0 ∨ i = 1 ∨ i = 2 ∨ i = 3 ∨ i = 4 := by omega
  rcases hi' with rfl | rfl | rfl | rfl | rfl <;> omega
theorem sm_neg {w : Nat → Int} {c : Nat} : sm (fun i => - w i) c = - sm w c := by
  rw [sm_eq, sm_eq]
  simp only [Int.mul_neg]
  omega
theorem few_lst {w : Nat → Int} {l : List Nat} (hn : l.Nodup) (hl : ∀ c, c ∈ l → lst w c) : l.length ≤ 343 := by
  by_cases p1 : (w 0 ≤ 0 ∧ 0 ≤ w 1 ∨ 0 ≤ w 0 ∧ w 1 ≤ 0) ∧ ¬ (w 0 = 0 ∧ w 1 = 0)
  · exact pair_len (a := 2) (b := 3) (k := 4) (fun c => by rw [sm_eq]; omega) (fun x y h => (pt_iff x y).mpr (by omega)) p1 hn hl
  by_cases p2 : (w 0 ≤ 0 ∧ 0 ≤ w 2 ∨ 0 ≤ w 0 ∧ w 2 ≤ 0) ∧ ¬ (w 0 = 0 ∧ w 2 = 0)
  · exact pair_len (a := 1) (b := 3) (k := 4) (fun c => by rw [sm_eq]; omega) (fun x y h => (pt_iff x y).mpr (by omega)) p2 hn hl
  by_cases p3 : (w 0 ≤ 0 ∧ 0 ≤ w 3 ∨ 0 ≤ w 0 ∧ w 3 ≤ 0) ∧ ¬ (w 0 = 0 ∧ w 3 = 0)
  · exact pair_len (a := 1) (b := 2) (k := 4) (fun c => by rw [sm_eq]; omega) (fun x y h => (pt_iff x y).mpr (by omega)) p3 hn hl
  by_cases p4 : (w 0 ≤ 0 ∧ 0 ≤ w 4 ∨ 0 ≤ w 0 ∧ w 4 ≤ 0) ∧ ¬ (w 0 = 0 ∧ w 4 = 0)
  · exact pair_len (a := 1) (b := 2) (k := 3) (fun c => by rw [sm_eq]; omega) (fun x y h => (pt_iff x y).mpr (by omega)) p4 hn hl
  have five : ∀ {P : Nat → Prop}, P 0 → P 1 → P 2 → P 3 → P 4 → ∀ i, i < 5 → P i := by
    intro P h0 h1 h2 h3 h4 i hi
    have hi' : i = 0 ∨ i = 1 ∨ i = 2 ∨ i = 3 ∨ i = 4 := by omega
    rcases hi' with rfl | rfl | rfl | rfl | rfl <;> assumption
  rcases Int.lt_trichotomy (w 0) 0 with h | h | h
  · have hw : ∀ i, i < 5 → 0 < (fun i => - w i) i := five (P := fun i => 0 < - w i) (by omega) (by omega) (by omega) (by omega) (by omega)
    cases l with
    | nil => exact Nat.zero_le _
    | cons c t =>
      obtain ⟨a1, a2, a3, -⟩ := hl c List.mem_cons_self
      have := sm_pos (w := fun i => - w i) (c := c) (fun i hi _ => hw i hi) (some_dg a2 a1)
      rw [sm_neg, a3] at this
      exact absurd this (by decide)
  · have hw : ∀ i, i < 5 → w i = 0 := five (P := fun i => w i = 0) (by omega) (by omega) (by omega) (by omega) (by omega)
    have q := nodup_len (fun c => c) l [2401, 343, 49, 7, 1] hn (fun c hc => by
      obtain ⟨a1, a2, a3, a4⟩ := hl c hc
      obtain ⟨i, hi, hd⟩ := some_dg a2 a1
      have e := a4 (pw i) (by
        have hi' : i = 0 ∨ i = 1 ∨ i = 2 ∨ i = 3 ∨ i = 4 := by omega
        rcases hi' with rfl | rfl | rfl | rfl | rfl <;> decide) (by
        have hi' : i = 0 ∨ i = 1 ∨ i = 2 ∨ i = 3 ∨ i = 4 := by omega
        rcases hi' with rfl | rfl | rfl | rfl | rfl <;> decide) (dg_unit hi hd) (by rw [sm_unit hi, hw i hi])
      rw [← e]
      have hi' : i = 0 ∨ i = 1 ∨ i = 2 ∨ i = 3 ∨ i = 4 := by omega
      rcases hi' with rfl | rfl | rfl | rfl | rfl <;> simp [pw]) (fun x _ y _ e => e)
    have : ([2401, 343, 49, 7, 1] : List Nat).length = 5 := rfl
    omega
  · have hw : ∀ i, i < 5 → 0 < w i := five (P := fun i => 0 < w i) (by omega) (by omega) (by omega) (by omega) (by omega)
    cases l with
    | nil => exact Nat.zero_le _
    | cons c t =>
      obtain ⟨a1, a2, a3, -⟩ := hl c List.mem_cons_self
      have := sm_pos (w := w) (c := c) (fun i hi _ => hw i hi) (some_dg a2 a1)
      rw [a3] at this
      exact absurd this (by decide)
theorem LL_len (w : Nat → Int) : (LL w).length ≤ 343 := few_lst (LL_nodup w) (fun _ h => mem_LL.mp h)
theorem sorted_ext : ∀ (l l' : List Nat), l.Pairwise (· < ·) → l'.Pairwise (· < ·) → (∀ x, x ∈ l ↔ x ∈ l') → l = l'
  | [], [], _, _, _ => rfl
  | [], b :: t, _, _, h => absurd ((h b).mpr List.mem_cons_self) List.not_mem_nil
  | a :: t, [], _, _, h => absurd ((h a).mp List.mem_cons_self) List.not_mem_nil
  | a :: t, b :: t', h1, h2, h => by
    rw [List.pairwise_cons] at h1 h2
    have e : a = b := by
      rcases List.mem_cons.mp ((h a).mp List.mem_cons_self) with q | q
      · exact q
      · rcases List.mem_cons.mp ((h b).mpr List.mem_cons_self) with r | r
        · exact r.symm
        · have := h1.1 b r
          have := h2.1 a q
          omega
    subst e
    have : t = t' := sorted_ext t t' h1.2 h2.2 (fun x => by
      constructor
      · intro hx
        rcases List.mem_cons.mp ((h x).mp (List.mem_cons_of_mem _ hx)) with q | q
        · subst q
          exact absurd (h1.1 x hx) (Nat.lt_irrefl _)
        · exact q
      · intro hx
        rcases List.mem_cons.mp ((h x).mpr (List.mem_cons_of_mem _ hx)) with q | q
        · subst q
          exact absurd (h2.1 x hx) (Nat.lt_irrefl _)
        · exact q)
    rw [this]
end
section
/-! the plain law of refresh and of work: both find LL w -/
set_option maxRecDepth 100000
/-- one code of gather -/
def gst (w : Nat → Int) (N : Nat → Bool) (l : List Nat) (c : Nat) : List Nat := if N c = true ∧ sm w c = 0 ∧ hp l c = false ∧ l.length < 400 then l ++ [c] else l
/-- gather's list behind the codes below n -/
def gf (w : Nat → Int) (N : Nat → Bool) (l : List Nat) : Nat → List Nat
  | 0 => l
  | n + 1 => gst w N (gf w N l n) n
/-- gather's rows that stay -/
def gn (w : Nat → Int) (N : Nat → Bool) : Nat → Bool := fun c => N c && !decide (sm w c = 0)
def nearer (s x : Int) : Bool := if 0 < s then decide (x < 0) else decide (0 < x)
/-- growRow gives code c a unit of i -/
def grb (w : Nat → Int) (l : List Nat) (c i : Nat) : Bool := nearer (sm w c) (w i) && decide (dg c i < 6) && !hp l (c + pw i)
def gra (w : Nat → Int) (l : List Nat) (c : Nat) (X : Nat → Bool) : Nat → Nat → Bool
  | 0 => X
  | k + 1 => if grb w l c k = true then (fun x => gra w l c X k x || decide (x = c + pw k)) else gra w l c X k
def gro (w : Nat → Int) (l : List Nat) (N : Nat → Bool) : Nat → Nat → Bool
  | 0 => fun _ => false
  | c + 1 => if N c = true then gra w l c (gro w l N c) 5 else gro w l N c
def un (c : Nat) : Bool := decide (c = 2401) || decide (c = 343) || decide (c = 49) || decide (c = 7) || decide (c = 1)
/-- the rows at hand and the list behind n sizes -/
def rit (w : Nat → Int) : Nat → (Nat → Bool) × List Nat
  | 0 => (un, [])
  | n + 1 => (gro w (gf w (rit w n).1 (rit w n).2 16832) (gn w (rit w n).1) 16807, gf w (rit w n).1 (rit w n).2 16832)
theorem gra_iff {w : Nat → Int} {l : List Nat} {c x : Nat} {X : Nat → Bool} : ∀ {k : Nat}, gra w l c X k x = true ↔ X x = true ∨ ∃ i, i < k ∧ grb w l c i = true ∧ x = c + pw i := by
  intro k
  induction k with
  | zero =>
    simp only [gra]
    constructor
    · exact Or.inl
    · rintro (h | ⟨i, h, -⟩)
      · exact h
      · omega
  | succ k ih =>
    unfold gra
    by_cases h : grb w l c k = true
    · rw [if_pos h]
      simp only [Bool.or_eq_true, decide_eq_true_eq]
      rw [ih]
      constructor
      · rintro ((q | ⟨i, q1, q2, q3⟩) | q)
        · exact Or.inl q
        · exact Or.inr ⟨i, by omega, q2, q3⟩
        · exact Or.inr ⟨k, by omega, h, q⟩
      · rintro (q | ⟨i, q1, q2, q3⟩)
        · exact Or.inl (Or.inl q)
        · rcases Nat.lt_or_ge i k with r | r
          · exact Or.inl (Or.inr ⟨i, r, q2, q3⟩)
          · have : i = k := by omega
            subst this
            exact Or.inr q3
    · rw [if_neg h, ih]
      constructor
      · rintro (q | ⟨i, q1, q2, q3⟩)
        · exact Or.inl q
        · exact Or.inr ⟨i, by omega, q2, q3⟩
      · rintro (q | ⟨i, q1, q2, q3⟩)
        · exact Or.inl q
        · rcases Nat.lt_or_ge i k with r | r
          · exact Or.inr ⟨i, r, q2, q3⟩
          · have : i = k := by omega
            subst this
            exact absurd q2 h
theorem gro_iff {w : Nat → Int} {l : List Nat} {x : Nat} {N : Nat → Bool} : ∀ {n : Nat}, gro w l N n x = true ↔ ∃ c, c < n ∧ N c = true ∧ ∃ i, i < 5 ∧ grb w l c i = true ∧ x = c + pw i := by
  intro n
  induction n with
  | zero =>
    simp only [gro]
    constructor
    · intro h; cases h
    · rintro ⟨c, h, -⟩; omega
  | succ n ih =>
    unfold gro
    by_cases h : N n = true
    · rw [if_pos h, gra_iff, ih]
      constructor
      · rintro (⟨c, q1, q2, q3⟩ | q)
        · exact ⟨c, by omega, q2, q3⟩
        · exact ⟨n, by omega, h, q⟩
      · rintro ⟨c, q1, q2, q3⟩
        rcases Nat.lt_or_ge c n with r | r
        · exact Or.inl ⟨c, r, q2, q3⟩
        · have : c = n := by omega
          subst this
          exact Or.inr q3
    · rw [if_neg h, ih]
      constructor
      · rintro ⟨c, q1, q2, q3⟩
        exact ⟨c, by omega, q2, q3⟩
      · rintro ⟨c, q1, q2, q3⟩
        rcases Nat.lt_or_ge c n with r | r
        · exact ⟨c, r, q2, q3⟩
        · have : c = n := by omega
          subst this
          exact absurd q2 h
theorem some_neg {w : Nat → Int} {c : Nat} (h : sm w c < 0) : ∃ i, i < 5 ∧ w i < 0 ∧ 0 < dg c i := by
  apply Classical.byContradiction
  intro q
  have key : ∀ i, i < 5 → 0 ≤ (dg c i : Int) * w i := by
    intro i hi
    by_cases q1 : 0 < dg c i
    · by_cases q2 : w i < 0
      · exact absurd ⟨i, hi, q2, q1⟩ q
      · exact Int.mul_nonneg (by omega) (by omega)
    · have : dg c i = 0 := by omega
      rw [this]
      simp
  have k0 := key 0 (by decide)
  have k1 := key 1 (by decide)
  have k2 := key 2 (by decide)
  have k3 := key 3 (by decide)
  have k4 := key 4 (by decide)
  rw [sm_eq] at h
  omega
theorem some_posi {w : Nat → Int} {c : Nat} (h : 0 < sm w c) : ∃ i, i < 5 ∧ 0 < w i ∧ 0 < dg c i := by
  obtain ⟨i, h1, h2, h3⟩ := some_neg (w := fun i => - w i) (c := c) (by rw [sm_neg]; omega)
  exact ⟨i, h1, by omega, h3⟩
def r_inv (w : Nat → Int) (n : Nat) (N : Nat → Bool) (l : List Nat) : Prop :=
  (∀ c, N c = true → c < 16807 ∧ 0 < c ∧ sz c = n + 1) ∧ (l.Nodup ∧ ∀ c, c ∈ l ↔ lst w c ∧ sz c ≤ n) ∧ ∀ v, lst w v → n + 1 ≤ sz v → ∃ p, N p = true ∧ pt p v = true
theorem gf_inv {w : Nat → Int} {n : Nat} {N : Nat → Bool} {l : List Nat} (h : r_inv w n N l) : ∀ k, (gf w N l k).Nodup ∧ ∀ c, c ∈ gf w N l k ↔ (c ∈ l ∨ (c < k ∧ N c = true ∧ lst w c)) := by
  obtain ⟨hN, ⟨hnd, hl⟩, -⟩ := h
  intro k
  induction k with
  | zero =>
    refine ⟨hnd, fun c => ?_⟩
    simp only [gf]
    constructor
    · exact Or.inl
    · rintro (q | ⟨q, -⟩)
      · exact q
      · omega
  | succ k ih =>
    obtain ⟨ih1, ih2⟩ := ih
    have hall : ∀ a, a ∈ gf w N l k → lst w a := fun a ha => by
      rcases (ih2 a).mp ha with q | q
      · exact ((hl a).mp q).1
      · exact q.2.2
    have hkn : N k = true → k ∉ gf w N l k := fun hk hm => by
      rcases (ih2 k).mp hm with q | q
      · have := ((hl k).mp q).2
        have := (hN k hk).2.2
        omega
      · omega
    have hcond : (N k = true ∧ sm w k = 0 ∧ hp (gf w N l k) k = false ∧ (gf w N l k).length < 400) ↔ (N k = true ∧ lst w k) := by
      constructor
      · rintro ⟨a1, a2, a3, -⟩
        obtain ⟨b1, b2, b3⟩ := hN k a1
        refine ⟨a1, b2, b1, a2, fun d c1 c2 c3 c4 => ?_⟩
        obtain ⟨v, v1, v2⟩ := lst_under d d (Nat.le_refl _) c1 c2 c4
        have v3 := pt_trans v2 c3
        by_cases e : v = k
        · subst e
          exact pt_anti c2 b1 c3 v2
        · exfalso
          have s1 := (sz_sub v1.2.1 b1 v3).2
          have s2 : sz v ≠ sz k := fun q => e (pt_szeq v1.2.1 b1 v3 q)
          have hv : v ∈ gf w N l k := (ih2 v).mpr (Or.inl ((hl v).mpr ⟨v1, by omega⟩))
          have : hp (gf w N l k) k = true := hp_iff.mpr ⟨v, hv, v3⟩
          rw [a3] at this
          cases this
      · rintro ⟨a1, a2⟩
        refine ⟨a1, a2.2.2.1, ?_, ?_⟩
        · cases hh : hp (gf w N l k) k with
          | false => rfl
          | true =>
            obtain ⟨a, b1, b2⟩ := hp_iff.mp hh
            have la := hall a b1
            have : a = k := a2.2.2.2 a la.1 la.2.1 b2 la.2.2.1
            subst this
            exact absurd b1 (hkn a1)
        · have := few_lst ih1 hall
          omega
    unfold gf
    unfold gst
    by_cases hc : N k = true ∧ sm w k = 0 ∧ hp (gf w N l k) k = false ∧ (gf w N l k).length < 400
    · rw [if_pos hc]
      obtain ⟨c1, c2⟩ := hcond.mp hc
      constructor
      · rw [List.nodup_append]
        refine ⟨ih1, by simp, fun a ha b hb => ?_⟩
        rw [List.mem_singleton] at hb
        subst hb
        exact fun e => hkn c1 (e ▸ ha)
      · intro c
        rw [List.mem_append, List.mem_singleton, ih2]
        constructor
        · rintro ((q | q) | q)
          · exact Or.inl q
          · exact Or.inr ⟨by omega, q.2⟩
          · subst q
            exact Or.inr ⟨by omega, c1, c2⟩
        · rintro (q | ⟨q1, q2⟩)
          · exact Or.inl (Or.inl q)
          · rcases Nat.lt_or_ge c k with r | r
            · exact Or.inl (Or.inr ⟨r, q2⟩)
            · exact Or.inr (by omega)
    · rw [if_neg hc]
      refine ⟨ih1, fun c => ?_⟩
      rw [ih2]
      constructor
      · rintro (q | q)
        · exact Or.inl q
        · exact Or.inr ⟨by omega, q.2⟩
      · rintro (q | ⟨q1, q2⟩)
        · exact Or.inl q
        · rcases Nat.lt_or_ge c k with r | r
          · exact Or.inr ⟨r, q2⟩
          · have : c = k := by omega
            subst this
            exact absurd (hcond.mpr q2) hc
theorem un_iff {c : Nat} : un c = true ↔ ∃ i, i < 5 ∧ c = pw i := by
  unfold un
  simp only [Bool.or_eq_true, decide_eq_true_eq]
  constructor
  · rintro ((((h | h) | h) | h) | h)
    · exact ⟨0, by decide, h⟩
    · exact ⟨1, by decide, h⟩
    · exact ⟨2, by decide, h⟩
    · exact ⟨3, by decide, h⟩
    · exact ⟨4, by decide, h⟩
  · rintro ⟨i, hi, rfl⟩
    have hi' : i = 0 ∨ i = 1 ∨ i = 2 ∨ i = 3 ∨ i = 4 := by omega
    rcases hi' with rfl | rfl | rfl | rfl | rfl <;> simp [pw]
theorem rit_inv (w : Nat → Int) : ∀ n, r_inv w n (rit w n).1 (rit w n).2 := by
  intro n
  induction n with
  | zero =>
    refine ⟨fun c hc => ?_, ⟨List.nodup_nil, fun c => ⟨fun h => absurd h List.not_mem_nil, fun h => ?_⟩⟩, fun v hv _ => ?_⟩
    · obtain ⟨i, hi, rfl⟩ := un_iff.mp hc
      have hi' : i = 0 ∨ i = 1 ∨ i = 2 ∨ i = 3 ∨ i = 4 := by omega
      rcases hi' with rfl | rfl | rfl | rfl | rfl <;> decide
    · have := sz_pos h.1.2.1 h.1.1
      omega
    · obtain ⟨i, hi, hd⟩ := some_dg hv.2.1 hv.1
      exact ⟨pw i, un_iff.mpr ⟨i, hi, rfl⟩, dg_unit hi hd⟩
  | succ n ih =>
    have hg := gf_inv ih 16832
    obtain ⟨hN, ⟨hnd, hl⟩, hC⟩ := ih
    have hN' : ∀ v, lst w v → sz v = n + 1 → (rit w n).1 v = true := fun v hv e => by
      obtain ⟨p, p1, p2⟩ := hC v hv (by omega)
      obtain ⟨b1, b2, b3⟩ := hN p p1
      have : p = v := pt_szeq b1 hv.2.1 p2 (by omega)
      rw [← this]
      exact p1
    have hl1 : ∀ c, c ∈ gf w (rit w n).1 (rit w n).2 16832 ↔ lst w c ∧ sz c ≤ n + 1 := fun c => by
      rw [hg.2 c, hl c]
      constructor
      · rintro (q | q)
        · exact ⟨q.1, by omega⟩
        · exact ⟨q.2.2, by have := (hN c q.2.1).2.2; omega⟩
      · rintro ⟨q1, q2⟩
        rcases Nat.lt_or_ge n (sz c) with r | r
        · have := q1.2.1
          exact Or.inr ⟨by omega, hN' c q1 (by omega), q1⟩
        · exact Or.inl ⟨q1, r⟩
    refine ⟨fun x hx => ?_, ⟨hg.1, hl1⟩, fun v hv hs => ?_⟩
    · obtain ⟨c, c1, c2, i, i1, i2, rfl⟩ := gro_iff.mp hx
      simp only [gn, Bool.and_eq_true] at c2
      obtain ⟨b1, b2, b3⟩ := hN c c2.1
      simp only [grb, Bool.and_eq_true, decide_eq_true_eq] at i2
      have s1 := add1 b1 i1 i2.1.2
      have s2 := add1_sz b1 i1 i2.1.2
      exact ⟨s1.1, by omega, by omega⟩
    · obtain ⟨p, p1, p2⟩ := hC v hv (by omega)
      obtain ⟨b1, b2, b3⟩ := hN p p1
      have hne : sm w p ≠ 0 := fun q => by
        have : p = v := hv.2.2.2 p b2 b1 p2 q
        rw [this] at b3
        omega
      have hsub := sm_sub (w := w) b1 hv.2.1 p2
      obtain ⟨e9, e0, e1, e2, e3, e4⟩ := pt_sub b1 hv.2.1 p2
      have step : ∀ i, i < 5 → nearer (sm w p) (w i) = true → dg p i < dg v i → ∃ p', gro w (gf w (rit w n).1 (rit w n).2 16832) (gn w (rit w n).1) 16807 p' = true ∧ pt p' v = true := by
        intro i hi hnr hd
        have hpt := add1_pt b1 hi p2 hd
        have hd6 : dg p i < 6 := by
          have := dg_lt v i
          omega
        refine ⟨p + pw i, gro_iff.mpr ⟨p, b1, ?_, i, hi, ?_, rfl⟩, hpt⟩
        · simp only [gn, Bool.and_eq_true]
          exact ⟨p1, by simp [hne]⟩
        · simp only [grb, Bool.and_eq_true, decide_eq_true_eq]
          refine ⟨⟨hnr, hd6⟩, ?_⟩
          cases hh : hp (gf w (rit w n).1 (rit w n).2 16832) (p + pw i) with
          | false => rfl
          | true =>
            obtain ⟨a, a1, a2⟩ := hp_iff.mp hh
            obtain ⟨la, sa⟩ := (hl1 a).mp a1
            have : a = v := hv.2.2.2 a la.1 la.2.1 (pt_trans a2 hpt) la.2.2.1
            rw [this] at sa
            omega
      have five : ∀ i, i < 5 → 0 < dg (v - p) i → dg p i < dg v i := by
        intro i hi
        have hi' : i = 0 ∨ i = 1 ∨ i = 2 ∨ i = 3 ∨ i = 4 := by omega
        rcases hi' with rfl | rfl | rfl | rfl | rfl <;> omega
      rw [hv.2.2.1] at hsub
      rcases Int.lt_or_gt_of_ne hne with hs1 | hs1
      · obtain ⟨i, i1, i2, i3⟩ := some_posi (w := w) (c := v - p) (by omega)
        exact step i i1 (by unfold nearer; rw [if_neg (by omega)]; simp [i2]) (five i i1 i3)
      · obtain ⟨i, i1, i2, i3⟩ := some_neg (w := w) (c := v - p) (by omega)
        exact step i i1 (by unfold nearer; rw [if_pos (by omega)]; simp [i2]) (five i i1 i3)
/-- what refresh has found, sorted, is LL w -/
theorem rit_LL (w : Nat → Int) {l : List Nat} (hp1 : l.Perm (rit w 30).2) (hs : l.Pairwise (· ≤ ·)) : l = LL w := by
  obtain ⟨-, ⟨hnd, hl⟩, -⟩ := rit_inv w 30
  have hnd' : l.Nodup := hp1.symm.nodup hnd
  refine sorted_ext _ _ ?_ (LL_sorted w) (fun x => ?_)
  · refine List.Pairwise.imp (R := fun a b => a ≤ b ∧ a ≠ b) (fun h => by omega) (List.Pairwise.and hs hnd')
  · rw [hp1.mem_iff, hl x, mem_LL]
    exact ⟨fun h => h.1, fun h => ⟨h, sz_le x⟩⟩
theorem rit_len (w : Nat → Int) (n : Nat) : (rit w n).2.length ≤ 343 := by
  obtain ⟨-, ⟨hnd, hl⟩, -⟩ := rit_inv w n
  exact few_lst hnd (fun c hc => ((hl c).mp hc).1)
/-- the reference's list behind the codes up to n -/
def wkl (w : Nat → Int) : Nat → List Nat
  | 0 => []
  | n + 1 => if sm w (n + 1) = 0 ∧ (wkl w n).length < 2000 ∧ hp (wkl w n) (n + 1) = false then wkl w n ++ [n + 1] else wkl w n
/-- the reference's number of balances up to n -/
def wkb (w : Nat → Int) : Nat → Nat
  | 0 => 1
  | n + 1 => wkb w n + (if sm w (n + 1) = 0 then 1 else 0)
/-- the number of balances below n -/
def smc (w : Nat → Int) : Nat → Nat
  | 0 => 0
  | n + 1 => smc w n + (if sm w n = 0 then 1 else 0)
theorem smc_wkb (w : Nat → Int) : ∀ n, smc w (n + 1) = wkb w n
  | 0 => by
    simp only [smc, wkb, sm_0]
    rfl
  | n + 1 => by
    have := smc_wkb w n
    unfold smc wkb
    rw [this]
theorem wkb_le (w : Nat → Int) : ∀ n, wkb w n ≤ n + 1
  | 0 => Nat.le_refl _
  | n + 1 => by
    have := wkb_le w n
    unfold wkb
    split <;> omega
theorem wkl_inv (w : Nat → Int) : ∀ n, n ≤ 16806 → (wkl w n).Pairwise (· < ·) ∧ ∀ c, c ∈ wkl w n ↔ lst w c ∧ c ≤ n := by
  intro n
  induction n with
  | zero =>
    intro _
    refine ⟨List.Pairwise.nil, fun c => ⟨fun h => absurd h List.not_mem_nil, fun h => ?_⟩⟩
    have := h.1.1
    omega
  | succ n ih =>
    intro hn
    obtain ⟨ih1, ih2⟩ := ih (by omega)
    have hcond : (sm w (n + 1) = 0 ∧ (wkl w n).length < 2000 ∧ hp (wkl w n) (n + 1) = false) ↔ lst w (n + 1) := by
      constructor
      · rintro ⟨a1, -, a3⟩
        refine ⟨by omega, by omega, a1, fun d c1 c2 c3 c4 => ?_⟩
        obtain ⟨v, v1, v2⟩ := lst_under d d (Nat.le_refl _) c1 c2 c4
        have v3 := pt_trans v2 c3
        by_cases e : v = n + 1
        · subst e
          exact pt_anti c2 (by omega) c3 v2
        · exfalso
          have := pt_le v1.2.1 (by omega) v3
          have : hp (wkl w n) (n + 1) = true := hp_iff.mpr ⟨v, (ih2 v).mpr ⟨v1, by omega⟩, v3⟩
          rw [a3] at this
          cases this
      · intro a2
        refine ⟨a2.2.2.1, ?_, ?_⟩
        · have := few_lst (w := w) (lt_nodup ih1) (fun c hc => ((ih2 c).mp hc).1)
          omega
        · cases hh : hp (wkl w n) (n + 1) with
          | false => rfl
          | true =>
            obtain ⟨a, b1, b2⟩ := hp_iff.mp hh
            obtain ⟨la, ln⟩ := (ih2 a).mp b1
            have : a = n + 1 := a2.2.2.2 a la.1 la.2.1 b2 la.2.2.1
            omega
    unfold wkl
    by_cases hc : sm w (n + 1) = 0 ∧ (wkl w n).length < 2000 ∧ hp (wkl w n) (n + 1) = false
    · rw [if_pos hc]
      have hl := hcond.mp hc
      constructor
      · rw [List.pairwise_append]
        refine ⟨ih1, List.pairwise_singleton _ _, fun a ha b hb => ?_⟩
        rw [List.mem_singleton] at hb
        have := ((ih2 a).mp ha).2
        omega
      · intro c
        rw [List.mem_append, List.mem_singleton, ih2]
        constructor
        · rintro (q | q)
          · exact ⟨q.1, by omega⟩
          · subst q
            exact ⟨hl, Nat.le_refl _⟩
        · rintro ⟨q1, q2⟩
          rcases Nat.lt_or_ge n c with r | r
          · exact Or.inr (by omega)
          · exact Or.inl ⟨q1, r⟩
    · rw [if_neg hc]
      refine ⟨ih1, fun c => ?_⟩
      rw [ih2]
      constructor
      · rintro ⟨q1, q2⟩
        exact ⟨q1, by omega⟩
      · rintro ⟨q1, q2⟩
        rcases Nat.lt_or_ge n c with r | r
        · have : c = n + 1 := by omega
          subst this
          exact absurd (hcond.mpr q1) hc
        · exact ⟨q1, r⟩
/-- what work has found is LL w -/
theorem wkl_LL (w : Nat → Int) : wkl w 16806 = LL w := by
  obtain ⟨h1, h2⟩ := wkl_inv w 16806 (Nat.le_refl _)
  refine sorted_ext _ _ h1 (LL_sorted w) (fun x => ?_)
  rw [h2, mem_LL]
  exact ⟨fun h => h.1, fun h => ⟨h, by have := h.2.1; omega⟩⟩
end
section
/-! the plain law of balances(n): a table, or all rows one by one -/
set_option maxRecDepth 100000
def sumk (g : Nat → Nat) : Nat → Nat
  | 0 => 0
  | k + 1 => sumk g k + g k
/-- one weight more -/
def cstep (f : Nat → Int → Nat) (a : Int) : Nat → Int → Nat
  | 0, s => f 0 s
  | n + 1, s => f (n + 1) s + cstep f a n (s - a)
def cbase (n : Nat) (s : Int) : Nat := if n = 0 ∧ s = 0 then 1 else 0
def cn : List Int → Nat → Int → Nat
  | [] => cbase
  | a :: L => cstep (cn L) a
/-- the table behind i weights -/
def ct (w : Nat → Int) : Nat → Nat → Int → Nat
  | 0 => cbase
  | i + 1 => cstep (ct w i) (w i)
def l3 (w : Nat → Int) (m : Nat) (z : Int) : Nat := sumk (fun x => sumk (fun y => if (x : Int) * w 2 + (y : Int) * w 3 + ((m - x - y : Nat) : Int) * w 4 = z then 1 else 0) (m - x + 1)) (m + 1)
/-- the reference's way -/
def mbal (w : Nat → Int) (n : Nat) : Nat := sumk (fun x => sumk (fun y => l3 w (n - x - y) (-(x : Int) * w 0 - (y : Int) * w 1)) (n - x + 1)) (n + 1)
theorem sumk_congr {g h : Nat → Nat} : ∀ {k : Nat}, (∀ x, x < k → g x = h x) → sumk g k = sumk h k
  | 0, _ => rfl
  | k + 1, e => by
    unfold sumk
    rw [sumk_congr (fun x hx => e x (by omega)), e k (by omega)]
theorem sumk_first (g : Nat → Nat) : ∀ k, sumk g (k + 1) = g 0 + sumk (fun x => g (x + 1)) k
  | 0 => by simp [sumk]
  | k + 1 => by
    have h := sumk_first g k
    have e1 : sumk g (k + 1 + 1) = sumk g (k + 1) + g (k + 1) := rfl
    have e2 : sumk (fun x => g (x + 1)) (k + 1) = sumk (fun x => g (x + 1)) k + g (k + 1) := rfl
    omega
theorem cstep_sum (f : Nat → Int → Nat) (a : Int) : ∀ (n : Nat) (s : Int), cstep f a n s = sumk (fun x => f (n - x) (s - (x : Int) * a)) (n + 1)
  | 0, s => by simp [cstep, sumk]
  | n + 1, s => by
    unfold cstep
    rw [cstep_sum f a n (s - a), sumk_first (fun x => f (n + 1 - x) (s - (x : Int) * a)) (n + 1)]
    have e : f (n + 1) s = f (n + 1 - 0) (s - ((0 : Nat) : Int) * a) := by simp
    rw [← e]
    congr 1
    refine sumk_congr (fun x hx => ?_)
    have e1 : n + 1 - (x + 1) = n - x := by omega
    have e2 : s - a - (x : Int) * a = s - ((x + 1 : Nat) : Int) * a := by
      rw [Int.natCast_add, Int.add_mul]
      simp
      omega
    rw [e1, e2]
theorem cstep_swap (f : Nat → Int → Nat) (a b : Int) : ∀ n, (∀ s, cstep (cstep f a) b n s = cstep (cstep f b) a n s) ∧ (∀ s, cstep (cstep f a) b (n + 1) s = cstep (cstep f b) a (n + 1) s) := by
  intro n
  induction n with
  | zero =>
    refine ⟨fun s => rfl, fun s => ?_⟩
    simp only [cstep]
    omega
  | succ n ih =>
    refine ⟨ih.2, fun s => ?_⟩
    have e1 := ih.2 (s - b)
    have e2 := ih.2 (s - a)
    have e3 := ih.1 (s - a - b)
    have e4 : s - b - a = s - a - b := by omega
    have u1 : cstep (cstep f a) b (n + 1 + 1) s = cstep f a (n + 1 + 1) s + cstep (cstep f a) b (n + 1) (s - b) := rfl
    have u2 : cstep (cstep f b) a (n + 1 + 1) s = cstep f b (n + 1 + 1) s + cstep (cstep f b) a (n + 1) (s - a) := rfl
    have u3 : cstep f a (n + 1 + 1) s = f (n + 1 + 1) s + cstep f a (n + 1) (s - a) := rfl
    have u4 : cstep f b (n + 1 + 1) s = f (n + 1 + 1) s + cstep f b (n + 1) (s - b) := rfl
    have u5 : cstep (cstep f b) a (n + 1) (s - b) = cstep f b (n + 1) (s - b) + cstep (cstep f b) a n (s - b - a) := rfl
    have u6 : cstep (cstep f a) b (n + 1) (s - a) = cstep f a (n + 1) (s - a) + cstep (cstep f a) b n (s - a - b) := rfl
    rw [e4] at u5
    omega
theorem cn_perm {L L' : List Int} (h : L.Perm L') : cn L = cn L' := by
  induction h with
  | nil => rfl
  | cons x _ ih => simp only [cn, ih]
  | swap x y l =>
    funext n s
    exact (cstep_swap (cn l) x y n).1 s
  | trans _ _ ih1 ih2 => exact ih1.trans ih2
theorem c_one (a : Int) : ∀ (n : Nat) (s : Int), cstep cbase a n s = if (n : Int) * a = s then 1 else 0
  | 0, s => by
    simp only [cstep, cbase]
    by_cases h : s = 0
    · subst h
      simp
    · have : ¬ (((0 : Nat) : Int) * a = s) := by
        simp
        omega
      rw [if_neg this, if_neg (fun q => h q.2)]
  | n + 1, s => by
    unfold cstep
    rw [c_one a n (s - a)]
    have e0 : cbase (n + 1) s = 0 := by
      unfold cbase
      rw [if_neg (by omega)]
    have e1 : ((n + 1 : Nat) : Int) * a = (n : Int) * a + a := by
      rw [Int.natCast_add, Int.add_mul]
      simp
    rw [e0, e1, Nat.zero_add]
    by_cases h : (n : Int) * a = s - a
    · rw [if_pos h, if_pos (by omega)]
    · rw [if_neg h, if_neg (by omega)]
theorem l3_eq (w : Nat → Int) (m : Nat) (z : Int) : l3 w m z = cn [w 2, w 3, w 4] m z := by
  show l3 w m z = cstep (cstep (cstep cbase (w 4)) (w 3)) (w 2) m z
  rw [cstep_sum]
  unfold l3
  refine sumk_congr (fun x hx => ?_)
  rw [cstep_sum]
  refine sumk_congr (fun y hy => ?_)
  rw [c_one]
  by_cases h : (x : Int) * w 2 + (y : Int) * w 3 + ((m - x - y : Nat) : Int) * w 4 = z
  · rw [if_pos h, if_pos (by omega)]
  · rw [if_neg h, if_neg (by omega)]
theorem bal_eq (w : Nat → Int) (n : Nat) : mbal w n = ct w 5 n 0 := by
  have h1 : mbal w n = cn [w 0, w 1, w 2, w 3, w 4] n 0 := by
    show mbal w n = cstep (cstep (cn [w 2, w 3, w 4]) (w 1)) (w 0) n 0
    rw [cstep_sum]
    unfold mbal
    refine sumk_congr (fun x hx => ?_)
    rw [cstep_sum]
    refine sumk_congr (fun y hy => ?_)
    rw [l3_eq]
    congr 1
    rw [Int.neg_mul]
    omega
  have h2 : ct w 5 = cn [w 4, w 3, w 2, w 1, w 0] := rfl
  rw [h1, h2]
  have : ([w 0, w 1, w 2, w 3, w 4] : List Int).Perm [w 4, w 3, w 2, w 1, w 0] := (List.reverse_perm [w 0, w 1, w 2, w 3, w 4]).symm
  rw [cn_perm this]
theorem cstep_far {f : Nat → Int → Nat} {a : Int} (ha : -6 ≤ a ∧ a ≤ 6) (hf : ∀ (n : Nat) (s : Int), (s < -6 * (n : Int) ∨ 6 * (n : Int) < s) → f n s = 0) : ∀ (n : Nat) (s : Int), (s < -6 * (n : Int) ∨ 6 * (n : Int) < s) → cstep f a n s = 0
  | 0, s, h => hf 0 s h
  | n + 1, s, h => by
    unfold cstep
    rw [hf (n + 1) s h, cstep_far ha hf n (s - a) (by omega)]
theorem ct_far {w : Nat → Int} (hw : okw w) : ∀ (i : Nat), i ≤ 5 → ∀ (n : Nat) (s : Int), (s < -6 * (n : Int) ∨ 6 * (n : Int) < s) → ct w i n s = 0
  | 0, _, n, s, h => by
    show cbase n s = 0
    unfold cbase
    rw [if_neg (by omega)]
  | i + 1, hi, n, s, h => cstep_far (hw i (by omega)) (ct_far hw i (by omega)) n s h
end
section
/-! the plain law of ways and fewest: one after the other, or a table -/
set_option maxRecDepth 100000
/-- one least balance more: f without it; op joins, sh counts one taking -/
def kk (op : Nat → Nat → Nat) (sh : Nat → Nat) (f : Nat → Nat) (a : Nat) (r : Nat) : Nat :=
  if h : 0 < a ∧ a ≤ r ∧ pt a r = true then op (f r) (sh (kk op sh f a (r - a))) else f r
termination_by r
decreasing_by omega
def pp (op : Nat → Nat → Nat) (sh : Nat → Nat) (z : Nat → Nat) : List Nat → Nat → Nat
  | [] => z
  | a :: L => kk op sh (pp op sh z L) a
theorem kk_eq (op : Nat → Nat → Nat) (sh : Nat → Nat) (f : Nat → Nat) {a r : Nat} (h0 : 0 < a) (ha : a < 16807) (hr : r < 16807) : kk op sh f a r = if pt a r = true then op (f r) (sh (kk op sh f a (r - a))) else f r := by
  rw [kk]
  by_cases h : pt a r = true
  · rw [if_pos h, dif_pos ⟨h0, pt_le ha hr h, h⟩]
  · rw [if_neg h, dif_neg (fun q => h q.2.2)]
theorem kk_pos {op : Nat → Nat → Nat} {sh : Nat → Nat} {f : Nat → Nat} {a r : Nat} (h0 : 0 < a) (ha : a < 16807) (hr : r < 16807) (h : pt a r = true) : kk op sh f a r = op (f r) (sh (kk op sh f a (r - a))) := by
  rw [kk_eq op sh f h0 ha hr, if_pos h]
theorem kk_neg {op : Nat → Nat → Nat} {sh : Nat → Nat} {f : Nat → Nat} {a r : Nat} (h0 : 0 < a) (ha : a < 16807) (hr : r < 16807) (h : ¬ pt a r = true) : kk op sh f a r = f r := by
  rw [kk_eq op sh f h0 ha hr, if_neg h]
theorem pt_sub_le {a r : Nat} (ha : a < 16807) (hr : r < 16807) (h : pt a r = true) : pt (r - a) r = true := by
  obtain ⟨-, e0, e1, e2, e3, e4⟩ := pt_sub ha hr h
  rw [pt_iff]
  omega
theorem pt_two {a b r : Nat} (ha : a < 16807) (hb : b < 16807) (hr : r < 16807) (h1 : pt a r = true) (h2 : pt b r = true) : pt a (r - b) = true ↔ pt b (r - a) = true := by
  obtain ⟨-, e0, e1, e2, e3, e4⟩ := pt_sub ha hr h1
  obtain ⟨-, f0, f1, f2, f3, f4⟩ := pt_sub hb hr h2
  rw [pt_iff] at h1 h2
  rw [pt_iff, pt_iff, e0, e1, e2, e3, e4, f0, f1, f2, f3, f4]
  omega
theorem kk_congr {op : Nat → Nat → Nat} {sh : Nat → Nat} {f g : Nat → Nat} {a : Nat} (h0 : 0 < a) (ha : a < 16807) (e : ∀ r, r < 16807 → f r = g r) : ∀ (n r : Nat), r ≤ n → r < 16807 → kk op sh f a r = kk op sh g a r := by
  intro n
  induction n with
  | zero =>
    intro r h1 h2
    have h : ¬ pt a r = true := fun q => by
      have := pt_le ha h2 q
      omega
    rw [kk_neg h0 ha h2 h, kk_neg h0 ha h2 h, e r h2]
  | succ n ih =>
    intro r h1 h2
    by_cases h : pt a r = true
    · have := pt_le ha h2 h
      rw [kk_pos h0 ha h2 h, kk_pos h0 ha h2 h, e r h2, ih (r - a) (by omega) (by omega)]
    · rw [kk_neg h0 ha h2 h, kk_neg h0 ha h2 h, e r h2]
theorem kk_swap {op : Nat → Nat → Nat} {sh : Nat → Nat} (oc : ∀ x y, op x y = op y x) (oa : ∀ x y z, op (op x y) z = op x (op y z)) (od : ∀ x y, sh (op x y) = op (sh x) (sh y)) (f : Nat → Nat) {a b : Nat} (a0 : 0 < a) (ha : a < 16807) (b0 : 0 < b) (hb : b < 16807) : ∀ (n r : Nat), r ≤ n → r < 16807 → kk op sh (kk op sh f a) b r = kk op sh (kk op sh f b) a r := by
  intro n
  induction n with
  | zero =>
    intro r h1 h2
    have h : ¬ pt a r = true := fun q => by
      have := pt_le ha h2 q
      omega
    have h' : ¬ pt b r = true := fun q => by
      have := pt_le hb h2 q
      omega
    rw [kk_neg b0 hb h2 h', kk_neg a0 ha h2 h, kk_neg a0 ha h2 h, kk_neg b0 hb h2 h']
  | succ n ih =>
    intro r h1 h2
    by_cases pa : pt a r = true
    · have la := pt_le ha h2 pa
      by_cases pb : pt b r = true
      · have lb := pt_le hb h2 pb
        have ea := ih (r - a) (by omega) (by omega)
        have eb := ih (r - b) (by omega) (by omega)
        rw [kk_pos b0 hb h2 pb, kk_pos a0 ha h2 pa, kk_pos a0 ha h2 pa, kk_pos b0 hb h2 pb, eb, ← ea]
        by_cases pab : pt a (r - b) = true
        · have pba := (pt_two ha hb h2 pa pb).mp pab
          have lab := pt_le ha (by omega) pab
          have ee := ih (r - a - b) (by omega) (by omega)
          have e1 : r - b - a = r - a - b := by omega
          rw [kk_pos a0 ha (r := r - b) (by omega) pab, kk_pos b0 hb (r := r - a) (by omega) pba, e1, ee, od, od, oa, oa]
          congr 1
          rw [← oa, ← oa, oc (sh (kk op sh f a (r - a))) (sh (kk op sh f b (r - b)))]
        · have pba : ¬ pt b (r - a) = true := fun q => pab ((pt_two ha hb h2 pa pb).mpr q)
          rw [kk_neg a0 ha (r := r - b) (by omega) pab, kk_neg b0 hb (r := r - a) (by omega) pba, oa, oa]
          congr 1
          exact oc _ _
      · have ea := ih (r - a) (by omega) (by omega)
        have pba : ¬ pt b (r - a) = true := fun q => pb (pt_trans q (pt_sub_le ha h2 pa))
        rw [kk_neg b0 hb h2 pb, kk_pos a0 ha h2 pa, kk_pos a0 ha h2 pa, kk_neg b0 hb h2 pb, ← ea, kk_neg b0 hb (r := r - a) (by omega) pba]
    · by_cases pb : pt b r = true
      · have lb := pt_le hb h2 pb
        have eb := ih (r - b) (by omega) (by omega)
        have pab : ¬ pt a (r - b) = true := fun q => pa (pt_trans q (pt_sub_le hb h2 pb))
        rw [kk_pos b0 hb h2 pb, kk_neg a0 ha h2 pa, kk_neg a0 ha h2 pa, kk_pos b0 hb h2 pb, eb, kk_neg a0 ha (r := r - b) (by omega) pab]
      · rw [kk_neg b0 hb h2 pb, kk_neg a0 ha h2 pa, kk_neg a0 ha h2 pa, kk_neg b0 hb h2 pb]
theorem pp_perm {op : Nat → Nat → Nat} {sh : Nat → Nat} (oc : ∀ x y, op x y = op y x) (oa : ∀ x y z, op (op x y) z = op x (op y z)) (od : ∀ x y, sh (op x y) = op (sh x) (sh y)) (z : Nat → Nat) {L L' : List Nat} (h : L.Perm L') : (∀ a, a ∈ L → 0 < a ∧ a < 16807) → ∀ r, r < 16807 → pp op sh z L r = pp op sh z L' r := by
  induction h with
  | nil => intro _ r _; rfl
  | cons x _ ih =>
    intro hm r hr
    have hx := hm x List.mem_cons_self
    exact kk_congr hx.1 hx.2 (ih (fun a ha => hm a (List.mem_cons_of_mem _ ha))) r r (Nat.le_refl _) hr
  | swap x y l =>
    intro hm r hr
    have hy := hm y List.mem_cons_self
    have hx := hm x (List.mem_cons_of_mem _ List.mem_cons_self)
    exact kk_swap oc oa od (pp op sh z l) hx.1 hx.2 hy.1 hy.2 r r (Nat.le_refl _) hr
  | trans p1 _ ih1 ih2 =>
    intro hm r hr
    rw [ih1 hm r hr, ih2 (fun a ha => hm a (p1.mem_iff.mpr ha)) r hr]
/-- in how many ways -/
def wy (L : List Nat) (r : Nat) : Nat := pp (fun x y => x + y) (fun x => x) (fun r => if r = 0 then 1 else 0) L r
/-- how few -/
def fe (L : List Nat) (r : Nat) : Nat := pp (fun x y => min x y) (fun x => x + 1) (fun r => if r = 0 then 0 else 1000) L r
def okl (L : List Nat) : Prop := ∀ a, a ∈ L → 0 < a ∧ a < 16807
theorem wy_perm {L L' : List Nat} (h : L.Perm L') (hm : okl L) {r : Nat} (hr : r < 16807) : wy L r = wy L' r := pp_perm (fun x y => Nat.add_comm x y) (fun x y z => Nat.add_assoc x y z) (fun x y => rfl) _ h hm r hr
theorem fe_perm {L L' : List Nat} (h : L.Perm L') (hm : okl L) {r : Nat} (hr : r < 16807) : fe L r = fe L' r := pp_perm (fun x y => Nat.min_comm x y) (fun x y z => Nat.min_assoc x y z) (fun x y => by omega) _ h hm r hr
theorem wy_nil (r : Nat) : wy [] r = if r = 0 then 1 else 0 := rfl
theorem fe_nil (r : Nat) : fe [] r = if r = 0 then 0 else 1000 := rfl
theorem wy_pos {a r : Nat} {L : List Nat} (h0 : 0 < a) (ha : a < 16807) (hr : r < 16807) (h : pt a r = true) : wy (a :: L) r = wy L r + wy (a :: L) (r - a) := kk_pos h0 ha hr h
theorem wy_neg {a r : Nat} {L : List Nat} (h0 : 0 < a) (ha : a < 16807) (hr : r < 16807) (h : ¬ pt a r = true) : wy (a :: L) r = wy L r := kk_neg h0 ha hr h
theorem fe_pos {a r : Nat} {L : List Nat} (h0 : 0 < a) (ha : a < 16807) (hr : r < 16807) (h : pt a r = true) : fe (a :: L) r = min (fe L r) (fe (a :: L) (r - a) + 1) := kk_pos h0 ha hr h
theorem fe_neg {a r : Nat} {L : List Nat} (h0 : 0 < a) (ha : a < 16807) (hr : r < 16807) (h : ¬ pt a r = true) : fe (a :: L) r = fe L r := kk_neg h0 ha hr h
theorem wy_0 : ∀ {L : List Nat}, okl L → wy L 0 = 1
  | [], _ => rfl
  | a :: L, h => by
    have ha := h a List.mem_cons_self
    rw [wy_neg ha.1 ha.2 (by decide) (fun q => by have := pt_zero ha.2 q; omega)]
    exact wy_0 (fun x hx => h x (List.mem_cons_of_mem _ hx))
theorem fe_0 : ∀ {L : List Nat}, okl L → fe L 0 = 0
  | [], _ => rfl
  | a :: L, h => by
    have ha := h a List.mem_cons_self
    rw [fe_neg ha.1 ha.2 (by decide) (fun q => by have := pt_zero ha.2 q; omega)]
    exact fe_0 (fun x hx => h x (List.mem_cons_of_mem _ hx))
theorem fe_le : ∀ {L : List Nat}, okl L → ∀ {r : Nat}, r < 16807 → fe L r ≤ 1000
  | [], _, r, _ => by
    rw [fe_nil]
    split <;> omega
  | a :: L, h, r, hr => by
    have ha := h a List.mem_cons_self
    have ih := fe_le (L := L) (fun x hx => h x (List.mem_cons_of_mem _ hx)) hr
    by_cases q : pt a r = true
    · rw [fe_pos ha.1 ha.2 hr q]
      omega
    · rw [fe_neg ha.1 ha.2 hr q]
      exact ih
theorem LL_ok (w : Nat → Int) : okl (LL w) := fun a ha => ⟨(mem_LL.mp ha).1, (mem_LL.mp ha).2.1⟩
/-- a balance is a sum of least balances, as many as its size at most -/
theorem fe_bal (w : Nat → Int) : ∀ (n r : Nat), r ≤ n → r < 16807 → sm w r = 0 → fe (LL w) r ≤ sz r := by
  intro n
  induction n with
  | zero =>
    intro r h1 h2 h3
    have : r = 0 := by omega
    subst this
    rw [fe_0 (LL_ok w)]
    exact Nat.zero_le _
  | succ n ih =>
    intro r h1 h2 h3
    rcases Nat.eq_zero_or_pos r with h | h
    · subst h
      rw [fe_0 (LL_ok w)]
      exact Nat.zero_le _
    · obtain ⟨v, v1, v2⟩ := lst_under r r (Nat.le_refl _) h h2 h3
      have hv : v ∈ LL w := mem_LL.mpr v1
      have hpm : (LL w).Perm (v :: (LL w).erase v) := List.perm_cons_erase hv
      have l1 := pt_le v1.2.1 h2 v2
      have l0 := v1.1
      have s0 := sz_pos v1.2.1 v1.1
      have s1 := sz_sub v1.2.1 h2 v2
      have b1 : sm w (r - v) = 0 := by rw [sm_sub v1.2.1 h2 v2, h3, v1.2.2.1]; rfl
      have i1 := ih (r - v) (by omega) (by omega) b1
      rw [fe_perm hpm (LL_ok w) (r := r - v) (by omega)] at i1
      rw [fe_perm hpm (LL_ok w) h2, fe_pos v1.1 v1.2.1 h2 v2]
      omega
end
section
/-! small rows for the walks: the two worlds, whole numbers as ints, tests of a truth value -/
set_option maxRecDepth 100000
/-- the class's object and its eight arrays -/
abbrev wB (g : Nat → Nat) (d : ClassId) (fw fn fx fl fp ft fk fr : Nat → Int32) (cnt cur : Int32) : va_W := [(g 0, .inr (0, [.ref (g 1), .ref (g 2), .ref (g 3), .ref (g 4), .ref (g 5), .ref (g 6), .ref (g 7), .ref (g 8), .int cnt, .int cur])), (g 1, .inl (d, 5, .inl fw)), (g 2, .inl (d, 526, .inl fn)), (g 3, .inl (d, 526, .inl fx)), (g 4, .inl (d, 400, .inl fl)), (g 5, .inl (d, 5, .inl fp)), (g 6, .inl (d, 5061, .inl ft)), (g 7, .inl (d, 40, .inl fk)), (g 8, .inl (d, 40, .inl fr))]
/-- the reference's object and its four arrays -/
abbrev wM (g : Nat → Nat) (d : ClassId) (fw fc fm ff : Nat → Int32) (rdy cnt bal : Int32) : va_W := [(g 0, .inr (1, [.ref (g 1), .int rdy, .int cnt, .int bal, .ref (g 2), .ref (g 3), .ref (g 4)])), (g 1, .inl (d, 5, .inl fw)), (g 2, .inl (d, 2000, .inl fc)), (g 3, .inl (d, 16807, .inl fm)), (g 4, .inl (d, 16807, .inl ff))]
theorem iI_toInt {z : Int} (h1 : -2147483648 ≤ z) (h2 : z < 2147483648) : (iI z).toInt = z := Int32.toInt_ofInt_of_le h1 h2
theorem iI_add (a b : Int) : iI a + iI b = iI (a + b) := (Int32.ofInt_add a b).symm
theorem iI_sub (a b : Int) : iI a - iI b = iI (a - b) := (Int32.ofInt_sub a b).symm
theorem iI_mul (a b : Int) : iI a * iI b = iI (a * b) := (Int32.ofInt_mul a b).symm
theorem nI_iI (n : Nat) : nI n = iI (n : Int) := Int32.ofInt_eq_ofNat.symm
theorem iI_of (x : Int32) : iI x.toInt = x := Int32.ofInt_toInt x
theorem pw_pos (i : Nat) : 0 < pw i ∧ pw i < 16807 := by
  unfold pw
  split <;> decide
theorem bI_1 : bI true = 1 := rfl
theorem bI_0 : bI false = 0 := rfl
theorem bI_nar (b : Bool) : narrow .boolean (.int (bI b)) = .int (bI b) := by cases b <;> rfl
/-- the powers of seven -/
def okp (fp : Nat → Int32) : Prop := ∀ i, i < 5 → fp i = nI (pw i)
/-- an array holds the weights w -/
def hww (f : Nat → Int32) (w : Nat → Int) : Prop := ∀ i, i < 5 → f i = iI (w i)
/-- an array holds the list -/
def hli (f : Nat → Int32) (L : List Nat) : Prop := ∀ k, k < L.length → f k = nI (L.getD k 0)
section XB
variable {p : Program} {l : Launch} {e : Env} {R : Room} {s : State} {m : MethodId} {args : Array Value} {below : List Frame} {meth : Method} {c : Code} {H : Heap} {locs : List Loc} {cells slots : Nat} {Q : State → Prop}
variable {pc : Nat} {ls : Array Slot} {rest : List Value} {cc : ByteArray}
theorem b_ne (hexec : p.tables.exec = Jvm.exec) (hb : c.code = cc) {b : Bool} {off : Int} {tgt : Nat} (hdg : decode cc pc = .ok (.ifCond .ne off, 3)) (ht : (pc : Int) + off = (tgt : Int))
    (k1 : b = true → W p l e R s m args below meth c H locs cells slots Q (F0 m tgt ls rest)) (k2 : b = false → W p l e R s m args below meth c H locs cells slots Q (F0 m (pc + 3) ls rest)) : W p l e R s m args below meth c H locs cells slots Q (F0 m pc ls (.int (bI b) :: rest)) := by
  cases b with
  | true => exact lv_if_ne hexec hb hdg ht (fun _ => k1 rfl) (fun h => absurd h (by decide))
  | false => exact lv_if_ne hexec hb hdg ht (fun h => absurd rfl h) (fun _ => k2 rfl)
theorem b_eq (hexec : p.tables.exec = Jvm.exec) (hb : c.code = cc) {b : Bool} {off : Int} {tgt : Nat} (hdg : decode cc pc = .ok (.ifCond .eq off, 3)) (ht : (pc : Int) + off = (tgt : Int))
    (k1 : b = false → W p l e R s m args below meth c H locs cells slots Q (F0 m tgt ls rest)) (k2 : b = true → W p l e R s m args below meth c H locs cells slots Q (F0 m (pc + 3) ls rest)) : W p l e R s m args below meth c H locs cells slots Q (F0 m pc ls (.int (bI b) :: rest)) := by
  cases b with
  | true => exact lv_if_eq hexec hb hdg ht (fun h => absurd h (by decide)) (fun _ => k2 rfl)
  | false => exact lv_if_eq hexec hb hdg ht (fun _ => k1 rfl) (fun h => absurd rfl h)
end XB
theorem bI_t {P : Prop} [Decidable P] (h : P) : (1 : Int32) = bI (decide P) := by rw [decide_eq_true h]; rfl
theorem bI_f {P : Prop} [Decidable P] (h : ¬ P) : (0 : Int32) = bI (decide P) := by rw [decide_eq_false h]; rfl
end
section
/-! lists by their places -/
theorem getD_mem {L : List Nat} {i : Nat} (h : i < L.length) : L.getD i 0 ∈ L := by
  rw [List.getD_eq_getElem?_getD, List.getElem?_eq_getElem h]
  exact List.getElem_mem h
theorem take_getD {L : List Nat} {i : Nat} (h : i < L.length) : L.take (i + 1) = L.take i ++ [L.getD i 0] := by
  rw [List.take_succ_eq_append_getElem h, List.getD_eq_getElem?_getD, List.getElem?_eq_getElem h]
  rfl
theorem hp_take {L : List Nat} {i c : Nat} (h : i < L.length) (ht : hp (L.take i) c = false) (hc : pt (L.getD i 0) c = false) : hp (L.take (i + 1)) c = false := by
  rw [take_getD h]
  unfold hp at *
  rw [List.any_append, ht, List.any_cons, hc]
  rfl
theorem not_take {L : List Nat} {i c : Nat} (h : i < L.length) (ht : c ∉ L.take i) (hc : L.getD i 0 ≠ c) : c ∉ L.take (i + 1) := by
  rw [take_getD h, List.mem_append, List.mem_singleton]
  rintro (q | q)
  · exact ht q
  · exact hc q.symm
/-! the class's own small methods that only read -/

abbrev rX0_isIndex : Room := { frames := 0, cells := 0, slots := 0, locals := 0 }
set_option maxHeartbeats 4000000 in
set_option maxRecDepth 100000 in
theorem metX0_isIndex {l : Launch} {D : va_G} {d : ClassId} {hz : Nat} {x : Int32} : mRO l yX0_isIndex cX0_isIndex 1 .boolean rX0_isIndex [.int x] D d [] hz (fun r => r = bI (decide (0 ≤ x.toInt ∧ x.toInt < 5))) := by
  refine mRO.ofW (by decide) (Nat.le_of_ble_eq_true rfl) ?_
  intro p e s m args below meth mc Q A ls S hP hK hA hS hl ret
  have S : CallFix p m mc cX0_isIndex 1 s args lw_all RX0 := S
  have hx := S.1
  have hb := S.2.1
  have hown := S.2.2.2.1
  have hts := S.2.2.2.2
  have hl : lv_has ls 1 [(0, .int x)] := hl
  refine lv_iload_n hx hb dX0_isIndex_0 rfl (lv_at hl 0 rfl) ?_
  refine z0_lt (X := x.toInt) (tgt := 13) hx hb dX0_isIndex_1 (by decide) rfl (fun hc => ?_) (fun hc => ?_)
  · refine lv_iconst (v := 0) hx hb dX0_isIndex_13 (by decide) ?_
    exact ret _ _ _ _ _ dX0_isIndex_14 (rfl) (bI_f (by omega)) hS
  · refine lv_iload_n hx hb dX0_isIndex_4 rfl (lv_at hl 0 rfl) ?_
    refine lv_iconst (v := 5) hx hb dX0_isIndex_5 (by decide) ?_
    refine z_ge (X := x.toInt) (Y := 5) (tgt := 13) hx hb dX0_isIndex_6 (by decide) rfl (by decide) (fun hc => ?_) (fun hc => ?_)
    · refine lv_iconst (v := 0) hx hb dX0_isIndex_13 (by decide) ?_
      exact ret _ _ _ _ _ dX0_isIndex_14 (rfl) (bI_f (by omega)) hS
    · refine lv_iconst (v := 1) hx hb dX0_isIndex_9 (by decide) ?_
      refine lv_goto (tgt := 14) hx hb dX0_isIndex_10 (by decide) ?_
      exact ret _ _ _ _ _ dX0_isIndex_14 (rfl) (bI_t (by omega)) hS

abbrev rX0_isCode : Room := { frames := 0, cells := 0, slots := 0, locals := 0 }
set_option maxHeartbeats 4000000 in
set_option maxRecDepth 100000 in
theorem metX0_isCode {l : Launch} {D : va_G} {d : ClassId} {hz : Nat} {x : Int32} : mRO l yX0_isCode cX0_isCode 1 .boolean rX0_isCode [.int x] D d [] hz (fun r => r = bI (decide (0 ≤ x.toInt ∧ x.toInt < 16807))) := by
  refine mRO.ofW (by decide) (Nat.le_of_ble_eq_true rfl) ?_
  intro p e s m args below meth mc Q A ls S hP hK hA hS hl ret
  have S : CallFix p m mc cX0_isCode 1 s args lw_all RX0 := S
  have hx := S.1
  have hb := S.2.1
  have hown := S.2.2.2.1
  have hts := S.2.2.2.2
  have hl : lv_has ls 1 [(0, .int x)] := hl
  refine lv_iload_n hx hb dX0_isCode_0 rfl (lv_at hl 0 rfl) ?_
  refine z0_lt (X := x.toInt) (tgt := 15) hx hb dX0_isCode_1 (by decide) rfl (fun hc => ?_) (fun hc => ?_)
  · refine lv_iconst (v := 0) hx hb dX0_isCode_15 (by decide) ?_
    exact ret _ _ _ _ _ dX0_isCode_16 (rfl) (bI_f (by omega)) hS
  · refine lv_iload_n hx hb dX0_isCode_4 rfl (lv_at hl 0 rfl) ?_
    refine lv_sipush (v := 16807) hx hb dX0_isCode_5 (by decide) ?_
    refine z_ge (X := x.toInt) (Y := 16807) (tgt := 15) hx hb dX0_isCode_8 (by decide) rfl (by decide) (fun hc => ?_) (fun hc => ?_)
    · refine lv_iconst (v := 0) hx hb dX0_isCode_15 (by decide) ?_
      exact ret _ _ _ _ _ dX0_isCode_16 (rfl) (bI_f (by omega)) hS
    · refine lv_iconst (v := 1) hx hb dX0_isCode_11 (by decide) ?_
      refine lv_goto (tgt := 16) hx hb dX0_isCode_12 (by decide) ?_
      exact ret _ _ _ _ _ dX0_isCode_16 (rfl) (bI_t (by omega)) hS

abbrev rX0_digit : Room := { frames := 0, cells := 0, slots := 0, locals := 0 }
set_option maxHeartbeats 4000000 in
set_option maxRecDepth 100000 in
theorem metX0_digit {l : Launch} {D : va_G} {d : ClassId} {g : Nat → Nat} {fw fn fx fl fp ft fk fr : Nat → Int32} {cnt cur : Int32} {hz : Nat} {c i : Nat} (hq : okp fp) (hc0 : c < 2147483648) (hi : i < 5) : mRO l yX0_digit cX0_digit 4 .int rX0_digit [.ref (g 0), .int (nI c), .int (nI i)] D d (wB g d fw fn fx fl fp ft fk fr cnt cur) hz (fun r => r = nI (dg c i)) := by
  refine mRO.ofW (by decide) (Nat.le_of_ble_eq_true rfl) ?_
  intro p e s m args below meth mc Q A ls S hP hK hA hS hl ret
  have S : CallFix p m mc cX0_digit 4 s args lw_all RX0 := S
  have hx := S.1
  have hb := S.2.1
  have hown := S.2.2.2.1
  have hts := S.2.2.2.2
  have hl : lv_has ls 4 [(0, .ref (g 0)), (1, .int (nI c)), (2, .int (nI i))] := hl
  have hw := pw_pos i
  refine lv_aload_n hx hb dX0_digit_0 rfl (lv_at hl 0 rfl) ?_
  refine va_get (D := D) (ci := 0) (v := .ref (g 5)) (C := RX0) (T := TX0) (N := 10) hx hb hts in_X0 hown hK hP 0 rfl rfl 4 (by decide) (hts _ q39) (fun _ h9 => h9) rfl dX0_digit_1 ?_
  refine lv_iload_n hx hb dX0_digit_4 rfl (lv_at hl 2 rfl) ?_
  refine xald hx hb hK hP 5 0 rfl rfl (i) (rfl) (hi) (by decide) dX0_digit_5 ?_
  refine tpi (y := nI (pw i)) (hq i hi) ?_
  refine lv_istore_n (lv' := [(3, .int (nI (pw i))), (0, .ref (g 0)), (1, .int (nI c)), (2, .int (nI i))]) hx hb dX0_digit_6 rfl hl (by decide) rfl (fun ls hl => ?_)
  refine lv_iload_n hx hb dX0_digit_7 rfl (lv_at hl 2 rfl) ?_
  refine lv_iload_n hx hb dX0_digit_8 rfl (lv_at hl 0 rfl) ?_
  refine z0_le (X := ((pw i : Nat) : Int)) (tgt := 16) hx hb dX0_digit_9 (by decide) (nI_toInt (by omega)) (fun hc => ?_) (fun hc => ?_)
  · omega
  · refine lv_iload_n hx hb dX0_digit_12 rfl (lv_at hl 0 rfl) ?_
    refine lv_goto (tgt := 17) hx hb dX0_digit_13 (by decide) ?_
    refine lv_idiv hx hb dX0_digit_17 (nI_ne0 hw.1 (by omega)) ?_
    refine tpi (y := nI (c / pw i)) (pk_div (by omega) hw.1 (by omega)) ?_
    refine lv_bipush (v := 7) hx hb dX0_digit_18 (by decide) ?_
    refine lv_irem hx hb dX0_digit_20 (by decide) ?_
    refine tpi (y := nI (dg c i)) (pk_rem (d := 7) (Nat.lt_of_le_of_lt (Nat.div_le_self _ _) hc0) (by decide) (by decide)) ?_
    exact ret _ _ _ _ _ dX0_digit_21 (rfl) (rfl) hS

abbrev rX0_sumOf : Room := { frames := 1, cells := 0, slots := 0, locals := 23 }
set_option maxHeartbeats 4000000 in
set_option maxRecDepth 100000 in
theorem metX0_sumOf {l : Launch} {D : va_G} {d : ClassId} {g : Nat → Nat} {fw fn fx fl fp ft fk fr : Nat → Int32} {cnt cur : Int32} {hz : Nat} {c : Nat} {w : Nat → Int} (hq : okp fp) (hw : hww fw w) (hc0 : c < 2147483648) : mRO l yX0_sumOf cX0_sumOf 4 .int rX0_sumOf [.ref (g 0), .int (nI c)] D d (wB g d fw fn fx fl fp ft fk fr cnt cur) hz (fun r => r = iI (sm w c)) := by
  refine mRO.ofW (by decide) (Nat.le_of_ble_eq_true rfl) ?_
  intro p e s m args below meth mc Q A ls S hP hK hA hS hl ret
  have S : CallFix p m mc cX0_sumOf 4 s args lw_all RX0 := S
  have hx := S.1
  have hb := S.2.1
  have hown := S.2.2.2.1
  have hts := S.2.2.2.2
  have hl : lv_has ls 4 [(0, .ref (g 0)), (1, .int (nI c))] := hl
  have lp : ∀ (k : Nat) (i : Nat) (H : Heap) (locs : List Loc) (ls : Array Slot), 5 - i < k → i ≤ 5 → va_P D vwCl (wB g d fw fn fx fl fp ft fk fr cnt cur) H → va_S A s.heap H locs → lv_has ls 4 [(0, .ref (g 0)), (1, .int (nI c)), (2, .int (iI (smk w c i))), (3, .int (nI i))] → W p l e rX0_sumOf s m args below meth mc H locs 0 0 Q (F0 m 4 ls []) := by
    intro k
    induction k with
    | zero =>
      intro i H locs ls hk
      exact absurd hk (Nat.not_lt_zero _)
    | succ k ih =>
      intro i H locs ls hk hi hP hS hl
      refine lv_iload_n hx hb dX0_sumOf_4 rfl (lv_at hl 3 rfl) ?_
      refine lv_iconst (v := 5) hx hb dX0_sumOf_5 (by decide) ?_
      refine z_ge (X := ((i : Nat) : Int)) (Y := 5) (tgt := 31) hx hb dX0_sumOf_6 (by decide) (nI_toInt (by omega)) (by decide) (fun hc => ?_) (fun hc => ?_)
      · refine lv_iload_n hx hb dX0_sumOf_31 rfl (lv_at hl 2 rfl) ?_
        exact ret _ _ _ _ _ dX0_sumOf_32 (rfl) (by obtain rfl : i = 5 := (by omega); rfl) hS
      · refine lv_iload_n hx hb dX0_sumOf_9 rfl (lv_at hl 2 rfl) ?_
        refine lv_aload_n hx hb dX0_sumOf_10 rfl (lv_at hl 0 rfl) ?_
        refine lv_iload_n hx hb dX0_sumOf_11 rfl (lv_at hl 1 rfl) ?_
        refine lv_iload_n hx hb dX0_sumOf_12 rfl (lv_at hl 3 rfl) ?_
        refine cRO (As := [.int (nI c), .int (nI i)]) (rest := [.int (iI (smk w c i))]) S (metX0_digit (c := c) (i := i) hq hc0 (by omega)) (cwV 2 hts (lw_V q93 q95 qs1 q25 q96) rfl rfl rfl (by decide +kernel) ⟨Nat.le_of_ble_eq_true rfl, Nat.le_of_ble_eq_true rfl⟩) hK hP hS hA rfl rfl rfl hl.1 rfl (Nat.le_of_ble_eq_true rfl) dX0_sumOf_13 ⟨Nat.zero_le _, Nat.zero_le _⟩ (fun r9 H locs hr hP hS => ?_)
        obtain rfl : r9 = nI (dg c i) := hr
        refine lv_aload_n hx hb dX0_sumOf_16 rfl (lv_at hl 0 rfl) ?_
        refine va_get (D := D) (ci := 0) (v := .ref (g 1)) (C := RX0) (T := TX0) (N := 10) hx hb hts in_X0 hown hK hP 0 rfl rfl 0 (by decide) (hts _ q35) (fun _ h9 => h9) rfl dX0_sumOf_17 ?_
        refine lv_iload_n hx hb dX0_sumOf_20 rfl (lv_at hl 3 rfl) ?_
        refine xald hx hb hK hP 1 0 rfl rfl (i) (rfl) (by omega) (by decide) dX0_sumOf_21 ?_
        refine tpi (y := iI (w i)) (hw i (by omega)) ?_
        refine lv_imul hx hb dX0_sumOf_22 ?_
        refine tpi (y := iI ((dg c i : Int) * w i)) (by rw [nI_iI, iI_mul]) ?_
        refine lv_iadd hx hb dX0_sumOf_23 ?_
        refine tpi (y := iI (smk w c (i + 1))) (iI_add _ _) ?_
        refine lv_istore_n (lv' := [(2, .int (iI (smk w c (i + 1)))), (0, .ref (g 0)), (1, .int (nI c)), (3, .int (nI i))]) hx hb dX0_sumOf_24 rfl hl (by decide) rfl (fun ls hl => ?_)
        refine lv_iinc (v := nI (i + 1)) (lv' := [(3, .int (nI (i + 1))), (2, .int (iI (smk w c (i + 1)))), (0, .ref (g 0)), (1, .int (nI c))]) hx hb dX0_sumOf_25 hl (k := 3) rfl (nI_1 _) (by decide) rfl (fun ls hl => ?_)
        refine lv_goto (tgt := 4) hx hb dX0_sumOf_28 (by decide) ?_
        exact ih (i + 1) _ _ _ (by omega) (by omega) hP hS (lv_sub hl [2, 3, 1, 0] rfl)
  refine lv_iconst (v := 0) hx hb dX0_sumOf_0 (by decide) ?_
  refine lv_istore_n (lv' := [(2, .int 0), (0, .ref (g 0)), (1, .int (nI c))]) hx hb dX0_sumOf_1 rfl hl (by decide) rfl (fun ls hl => ?_)
  refine lv_iconst (v := 0) hx hb dX0_sumOf_2 (by decide) ?_
  refine lv_istore_n (lv' := [(3, .int 0), (2, .int 0), (0, .ref (g 0)), (1, .int (nI c))]) hx hb dX0_sumOf_3 rfl hl (by decide) rfl (fun ls hl => ?_)
  exact lp _ 0 _ _ _ (Nat.lt_succ_self _) (by omega) hP hS (lv_sub hl [2, 3, 1, 0] rfl)

abbrev rX0_sizeOf : Room := { frames := 1, cells := 0, slots := 0, locals := 23 }
set_option maxHeartbeats 4000000 in
set_option maxRecDepth 100000 in
theorem metX0_sizeOf {l : Launch} {D : va_G} {d : ClassId} {g : Nat → Nat} {fw fn fx fl fp ft fk fr : Nat → Int32} {cnt cur : Int32} {hz : Nat} {c : Nat} (hq : okp fp) (hc0 : c < 2147483648) : mRO l yX0_sizeOf cX0_sizeOf 4 .int rX0_sizeOf [.ref (g 0), .int (nI c)] D d (wB g d fw fn fx fl fp ft fk fr cnt cur) hz (fun r => r = nI (sz c)) := by
  refine mRO.ofW (by decide) (Nat.le_of_ble_eq_true rfl) ?_
  intro p e s m args below meth mc Q A ls S hP hK hA hS hl ret
  have S : CallFix p m mc cX0_sizeOf 4 s args lw_all RX0 := S
  have hx := S.1
  have hb := S.2.1
  have hown := S.2.2.2.1
  have hts := S.2.2.2.2
  have hl : lv_has ls 4 [(0, .ref (g 0)), (1, .int (nI c))] := hl
  have lp : ∀ (k : Nat) (i : Nat) (H : Heap) (locs : List Loc) (ls : Array Slot), 5 - i < k → i ≤ 5 → va_P D vwCl (wB g d fw fn fx fl fp ft fk fr cnt cur) H → va_S A s.heap H locs → lv_has ls 4 [(0, .ref (g 0)), (1, .int (nI c)), (2, .int (nI (szk c i))), (3, .int (nI i))] → W p l e rX0_sizeOf s m args below meth mc H locs 0 0 Q (F0 m 4 ls []) := by
    intro k
    induction k with
    | zero =>
      intro i H locs ls hk
      exact absurd hk (Nat.not_lt_zero _)
    | succ k ih =>
      intro i H locs ls hk hi hP hS hl
      refine lv_iload_n hx hb dX0_sizeOf_4 rfl (lv_at hl 3 rfl) ?_
      refine lv_iconst (v := 5) hx hb dX0_sizeOf_5 (by decide) ?_
      refine z_ge (X := ((i : Nat) : Int)) (Y := 5) (tgt := 24) hx hb dX0_sizeOf_6 (by decide) (nI_toInt (by omega)) (by decide) (fun hc => ?_) (fun hc => ?_)
      · refine lv_iload_n hx hb dX0_sizeOf_24 rfl (lv_at hl 2 rfl) ?_
        exact ret _ _ _ _ _ dX0_sizeOf_25 (rfl) (by obtain rfl : i = 5 := (by omega); rfl) hS
      · refine lv_iload_n hx hb dX0_sizeOf_9 rfl (lv_at hl 2 rfl) ?_
        refine lv_aload_n hx hb dX0_sizeOf_10 rfl (lv_at hl 0 rfl) ?_
        refine lv_iload_n hx hb dX0_sizeOf_11 rfl (lv_at hl 1 rfl) ?_
        refine lv_iload_n hx hb dX0_sizeOf_12 rfl (lv_at hl 3 rfl) ?_
        refine cRO (As := [.int (nI c), .int (nI i)]) (rest := [.int (nI (szk c i))]) S (metX0_digit (c := c) (i := i) hq hc0 (by omega)) (cwV 2 hts (lw_V q93 q95 qs1 q25 q96) rfl rfl rfl (by decide +kernel) ⟨Nat.le_of_ble_eq_true rfl, Nat.le_of_ble_eq_true rfl⟩) hK hP hS hA rfl rfl rfl hl.1 rfl (Nat.le_of_ble_eq_true rfl) dX0_sizeOf_13 ⟨Nat.zero_le _, Nat.zero_le _⟩ (fun r9 H locs hr hP hS => ?_)
        obtain rfl : r9 = nI (dg c i) := hr
        refine lv_iadd hx hb dX0_sizeOf_16 ?_
        refine tpi (y := nI (szk c (i + 1))) (nI_add _ _) ?_
        refine lv_istore_n (lv' := [(2, .int (nI (szk c (i + 1)))), (0, .ref (g 0)), (1, .int (nI c)), (3, .int (nI i))]) hx hb dX0_sizeOf_17 rfl hl (by decide) rfl (fun ls hl => ?_)
        refine lv_iinc (v := nI (i + 1)) (lv' := [(3, .int (nI (i + 1))), (2, .int (nI (szk c (i + 1)))), (0, .ref (g 0)), (1, .int (nI c))]) hx hb dX0_sizeOf_18 hl (k := 3) rfl (nI_1 _) (by decide) rfl (fun ls hl => ?_)
        refine lv_goto (tgt := 4) hx hb dX0_sizeOf_21 (by decide) ?_
        exact ih (i + 1) _ _ _ (by omega) (by omega) hP hS (lv_sub hl [2, 3, 1, 0] rfl)
  refine lv_iconst (v := 0) hx hb dX0_sizeOf_0 (by decide) ?_
  refine lv_istore_n (lv' := [(2, .int 0), (0, .ref (g 0)), (1, .int (nI c))]) hx hb dX0_sizeOf_1 rfl hl (by decide) rfl (fun ls hl => ?_)
  refine lv_iconst (v := 0) hx hb dX0_sizeOf_2 (by decide) ?_
  refine lv_istore_n (lv' := [(3, .int 0), (2, .int 0), (0, .ref (g 0)), (1, .int (nI c))]) hx hb dX0_sizeOf_3 rfl hl (by decide) rfl (fun ls hl => ?_)
  exact lp _ 0 _ _ _ (Nat.lt_succ_self _) (by omega) hP hS (lv_sub hl [2, 3, 1, 0] rfl)

abbrev rX0_isPart : Room := { frames := 1, cells := 0, slots := 0, locals := 23 }
set_option maxHeartbeats 4000000 in
set_option maxRecDepth 100000 in
theorem metX0_isPart {l : Launch} {D : va_G} {d : ClassId} {g : Nat → Nat} {fw fn fx fl fp ft fk fr : Nat → Int32} {cnt cur : Int32} {hz : Nat} {a b : Nat} (hq : okp fp) (ha0 : a < 2147483648) (hb0 : b < 2147483648) : mRO l yX0_isPart cX0_isPart 4 .boolean rX0_isPart [.ref (g 0), .int (nI a), .int (nI b)] D d (wB g d fw fn fx fl fp ft fk fr cnt cur) hz (fun r => r = bI (pt a b)) := by
  refine mRO.ofW (by decide) (Nat.le_of_ble_eq_true rfl) ?_
  intro p e s m args below meth mc Q A ls S hP hK hA hS hl ret
  have S : CallFix p m mc cX0_isPart 4 s args lw_all RX0 := S
  have hx := S.1
  have hb := S.2.1
  have hown := S.2.2.2.1
  have hts := S.2.2.2.2
  have hl : lv_has ls 4 [(0, .ref (g 0)), (1, .int (nI a)), (2, .int (nI b))] := hl
  have lp : ∀ (k : Nat) (i : Nat) (H : Heap) (locs : List Loc) (ls : Array Slot), 5 - i < k → i ≤ 5 → ptk a b i = true → va_P D vwCl (wB g d fw fn fx fl fp ft fk fr cnt cur) H → va_S A s.heap H locs → lv_has ls 4 [(0, .ref (g 0)), (1, .int (nI a)), (2, .int (nI b)), (3, .int (nI i))] → W p l e rX0_isPart s m args below meth mc H locs 0 0 Q (F0 m 2 ls []) := by
    intro k
    induction k with
    | zero =>
      intro i H locs ls hk
      exact absurd hk (Nat.not_lt_zero _)
    | succ k ih =>
      intro i H locs ls hk hi ht hP hS hl
      refine lv_iload_n hx hb dX0_isPart_2 rfl (lv_at hl 3 rfl) ?_
      refine lv_iconst (v := 5) hx hb dX0_isPart_3 (by decide) ?_
      refine z_ge (X := ((i : Nat) : Int)) (Y := 5) (tgt := 30) hx hb dX0_isPart_4 (by decide) (nI_toInt (by omega)) (by decide) (fun hc => ?_) (fun hc => ?_)
      · refine lv_iconst (v := 1) hx hb dX0_isPart_30 (by decide) ?_
        exact ret _ _ _ _ _ dX0_isPart_31 (rfl) (by obtain rfl : i = 5 := (by omega); show (1 : Int32) = bI (ptk a b 5); rw [ht]; rfl) hS
      · refine lv_aload_n hx hb dX0_isPart_7 rfl (lv_at hl 0 rfl) ?_
        refine lv_iload_n hx hb dX0_isPart_8 rfl (lv_at hl 1 rfl) ?_
        refine lv_iload_n hx hb dX0_isPart_9 rfl (lv_at hl 3 rfl) ?_
        refine cRO (As := [.int (nI a), .int (nI i)]) (rest := []) S (metX0_digit (c := a) (i := i) hq ha0 (by omega)) (cwV 2 hts (lw_V q93 q95 qs1 q25 q96) rfl rfl rfl (by decide +kernel) ⟨Nat.le_of_ble_eq_true rfl, Nat.le_of_ble_eq_true rfl⟩) hK hP hS hA rfl rfl rfl hl.1 rfl (Nat.le_of_ble_eq_true rfl) dX0_isPart_10 ⟨Nat.zero_le _, Nat.zero_le _⟩ (fun r9 H locs hr hP hS => ?_)
        obtain rfl : r9 = nI (dg a i) := hr
        refine lv_aload_n hx hb dX0_isPart_13 rfl (lv_at hl 0 rfl) ?_
        refine lv_iload_n hx hb dX0_isPart_14 rfl (lv_at hl 2 rfl) ?_
        refine lv_iload_n hx hb dX0_isPart_15 rfl (lv_at hl 3 rfl) ?_
        refine cRO (As := [.int (nI b), .int (nI i)]) (rest := [.int (nI (dg a i))]) S (metX0_digit (c := b) (i := i) hq hb0 (by omega)) (cwV 2 hts (lw_V q93 q95 qs1 q25 q96) rfl rfl rfl (by decide +kernel) ⟨Nat.le_of_ble_eq_true rfl, Nat.le_of_ble_eq_true rfl⟩) hK hP hS hA rfl rfl rfl hl.1 rfl (Nat.le_of_ble_eq_true rfl) dX0_isPart_16 ⟨Nat.zero_le _, Nat.zero_le _⟩ (fun r9 H locs hr hP hS => ?_)
        obtain rfl : r9 = nI (dg b i) := hr
        have q1 := dg_lt a i
        have q2 := dg_lt b i
        refine z_le (X := ((dg a i : Nat) : Int)) (Y := ((dg b i : Nat) : Int)) (tgt := 24) hx hb dX0_isPart_19 (by decide) (nI_toInt (by omega)) (nI_toInt (by omega)) (fun hc => ?_) (fun hc => ?_)
        · refine lv_iinc (v := nI (i + 1)) (lv' := [(3, .int (nI (i + 1))), (0, .ref (g 0)), (1, .int (nI a)), (2, .int (nI b))]) hx hb dX0_isPart_24 hl (k := 3) rfl (nI_1 _) (by decide) rfl (fun ls hl => ?_)
          refine lv_goto (tgt := 2) hx hb dX0_isPart_27 (by decide) ?_
          exact ih (i + 1) _ _ _ (by omega) (by omega) (by unfold ptk; rw [ht, decide_eq_true (by omega)]; rfl) hP hS (lv_sub hl [1, 2, 3, 0] rfl)
        · refine lv_iconst (v := 0) hx hb dX0_isPart_22 (by decide) ?_
          exact ret _ _ _ _ _ dX0_isPart_23 (rfl) (by cases hh : pt a b with | false => rfl | true => exact absurd (ptk_le (k := 5) (i := i) hh (by omega)) (by omega)) hS
  refine lv_iconst (v := 0) hx hb dX0_isPart_0 (by decide) ?_
  refine lv_istore_n (lv' := [(3, .int 0), (0, .ref (g 0)), (1, .int (nI a)), (2, .int (nI b))]) hx hb dX0_isPart_1 rfl hl (by decide) rfl (fun ls hl => ?_)
  exact lp _ 0 _ _ _ (Nat.lt_succ_self _) (by omega) rfl hP hS (lv_sub hl [1, 2, 3, 0] rfl)

abbrev rX0_hasPart : Room := { frames := 2, cells := 0, slots := 0, locals := 46 }
set_option maxHeartbeats 4000000 in
set_option maxRecDepth 100000 in
theorem metX0_hasPart {l : Launch} {D : va_G} {d : ClassId} {g : Nat → Nat} {fw fn fx fl fp ft fk fr : Nat → Int32} {cnt cur : Int32} {hz : Nat} {c : Nat} {L : List Nat} (hq : okp fp) (hL : hli fl L) (hn : cnt = nI L.length) (hlen : L.length ≤ 400) (hm : ∀ a, a ∈ L → a < 16807) (hc0 : c < 2147483648) : mRO l yX0_hasPart cX0_hasPart 3 .boolean rX0_hasPart [.ref (g 0), .int (nI c)] D d (wB g d fw fn fx fl fp ft fk fr cnt cur) hz (fun r => r = bI (hp L c)) := by
  refine mRO.ofW (by decide) (Nat.le_of_ble_eq_true rfl) ?_
  intro p e s m args below meth mc Q A ls S hP hK hA hS hl ret
  have S : CallFix p m mc cX0_hasPart 3 s args lw_all RX0 := S
  have hx := S.1
  have hb := S.2.1
  have hown := S.2.2.2.1
  have hts := S.2.2.2.2
  have hl : lv_has ls 3 [(0, .ref (g 0)), (1, .int (nI c))] := hl
  subst hn
  have lp : ∀ (k : Nat) (i : Nat) (H : Heap) (locs : List Loc) (ls : Array Slot), L.length - i < k → i ≤ L.length → hp (L.take i) c = false → va_P D vwCl (wB g d fw fn fx fl fp ft fk fr (nI L.length) cur) H → va_S A s.heap H locs → lv_has ls 3 [(0, .ref (g 0)), (1, .int (nI c)), (2, .int (nI i))] → W p l e rX0_hasPart s m args below meth mc H locs 0 0 Q (F0 m 2 ls []) := by
    intro k
    induction k with
    | zero =>
      intro i H locs ls hk
      exact absurd hk (Nat.not_lt_zero _)
    | succ k ih =>
      intro i H locs ls hk hi ht hP hS hl
      refine lv_iload_n hx hb dX0_hasPart_2 rfl (lv_at hl 2 rfl) ?_
      refine lv_aload_n hx hb dX0_hasPart_3 rfl (lv_at hl 0 rfl) ?_
      refine va_get (D := D) (ci := 0) (v := .int (nI L.length)) (C := RX0) (T := TX0) (N := 10) hx hb hts in_X0 hown hK hP 0 rfl rfl 8 (by decide) (hts _ q43) (fun _ h9 => h9) rfl dX0_hasPart_4 ?_
      refine z_ge (X := ((i : Nat) : Int)) (Y := ((L.length : Nat) : Int)) (tgt := 32) hx hb dX0_hasPart_7 (by decide) (nI_toInt (by omega)) (nI_toInt (by omega)) (fun hc => ?_) (fun hc => ?_)
      · refine lv_iconst (v := 0) hx hb dX0_hasPart_32 (by decide) ?_
        exact ret _ _ _ _ _ dX0_hasPart_33 (rfl) (by obtain rfl : i = L.length := (by omega); rw [List.take_length] at ht; rw [ht]; rfl) hS
      · have hi2 : i < L.length := by omega
        have hg : L.getD i 0 ∈ L := getD_mem hi2
        have hg2 := hm _ hg
        refine lv_aload_n hx hb dX0_hasPart_10 rfl (lv_at hl 0 rfl) ?_
        refine lv_aload_n hx hb dX0_hasPart_11 rfl (lv_at hl 0 rfl) ?_
        refine va_get (D := D) (ci := 0) (v := .ref (g 4)) (C := RX0) (T := TX0) (N := 10) hx hb hts in_X0 hown hK hP 0 rfl rfl 3 (by decide) (hts _ q38) (fun _ h9 => h9) rfl dX0_hasPart_12 ?_
        refine lv_iload_n hx hb dX0_hasPart_15 rfl (lv_at hl 2 rfl) ?_
        refine xald hx hb hK hP 4 0 rfl rfl (i) (rfl) (by omega) (by decide) dX0_hasPart_16 ?_
        refine tpi (y := nI (L.getD i 0)) (hL i hi2) ?_
        refine lv_iload_n hx hb dX0_hasPart_17 rfl (lv_at hl 1 rfl) ?_
        refine cRO (As := [.int (nI (L.getD i 0)), .int (nI c)]) (rest := []) S (metX0_isPart (a := L.getD i 0) (b := c) hq (by omega) hc0) (cwV 2 hts (lw_V q113 q115 qs5 q25 q116) rfl rfl rfl (by decide +kernel) ⟨Nat.le_of_ble_eq_true rfl, Nat.le_of_ble_eq_true rfl⟩) hK hP hS hA rfl rfl rfl hl.1 rfl (Nat.le_of_ble_eq_true rfl) dX0_hasPart_18 ⟨Nat.zero_le _, Nat.zero_le _⟩ (fun r9 H locs hr hP hS => ?_)
        obtain rfl : r9 = bI (pt (L.getD i 0) c) := hr
        refine b_eq (b := pt (L.getD i 0) c) (tgt := 26) hx hb dX0_hasPart_21 (by decide) (fun hc => ?_) (fun hc => ?_)
        · refine lv_iinc (v := nI (i + 1)) (lv' := [(2, .int (nI (i + 1))), (0, .ref (g 0)), (1, .int (nI c))]) hx hb dX0_hasPart_26 hl (k := 2) rfl (nI_1 _) (by decide) rfl (fun ls hl => ?_)
          refine lv_goto (tgt := 2) hx hb dX0_hasPart_29 (by decide) ?_
          exact ih (i + 1) _ _ _ (by omega) (by omega) (hp_take hi2 ht hc) hP hS (lv_sub hl [1, 2, 0] rfl)
        · refine lv_iconst (v := 1) hx hb dX0_hasPart_24 (by decide) ?_
          exact ret _ _ _ _ _ dX0_hasPart_25 (rfl) (by rw [hp_iff.mpr ⟨_, hg, hc⟩]; rfl) hS
  refine lv_iconst (v := 0) hx hb dX0_hasPart_0 (by decide) ?_
  refine lv_istore_n (lv' := [(2, .int 0), (0, .ref (g 0)), (1, .int (nI c))]) hx hb dX0_hasPart_1 rfl hl (by decide) rfl (fun ls hl => ?_)
  exact lp _ 0 _ _ _ (Nat.lt_succ_self _) (by omega) rfl hP hS (lv_sub hl [1, 2, 0] rfl)

abbrev rX0_place : Room := { frames := 0, cells := 0, slots := 0, locals := 0 }
set_option maxHeartbeats 4000000 in
set_option maxRecDepth 100000 in
theorem metX0_place {l : Launch} {D : va_G} {d : ClassId} {g : Nat → Nat} {fw fn fx fl fp ft fk fr : Nat → Int32} {cnt cur : Int32} {hz : Nat} {c : Nat} {L : List Nat} (hL : hli fl L) (hn : cnt = nI L.length) (hlen : L.length ≤ 400) (hm : ∀ a, a ∈ L → a < 16807) (hc0 : c < 16807) : mRO l yX0_place cX0_place 3 .int rX0_place [.ref (g 0), .int (nI c)] D d (wB g d fw fn fx fl fp ft fk fr cnt cur) hz (fun r => (c ∈ L ∧ 0 ≤ r.toInt) ∨ (c ∉ L ∧ r.toInt < 0)) := by
  refine mRO.ofW (by decide) (Nat.le_of_ble_eq_true rfl) ?_
  intro p e s m args below meth mc Q A ls S hP hK hA hS hl ret
  have S : CallFix p m mc cX0_place 3 s args lw_all RX0 := S
  have hx := S.1
  have hb := S.2.1
  have hown := S.2.2.2.1
  have hts := S.2.2.2.2
  have hl : lv_has ls 3 [(0, .ref (g 0)), (1, .int (nI c))] := hl
  subst hn
  have lp : ∀ (k : Nat) (i : Nat) (H : Heap) (locs : List Loc) (ls : Array Slot), L.length - i < k → i ≤ L.length → c ∉ L.take i → va_P D vwCl (wB g d fw fn fx fl fp ft fk fr (nI L.length) cur) H → va_S A s.heap H locs → lv_has ls 3 [(0, .ref (g 0)), (1, .int (nI c)), (2, .int (nI i))] → W p l e rX0_place s m args below meth mc H locs 0 0 Q (F0 m 2 ls []) := by
    intro k
    induction k with
    | zero =>
      intro i H locs ls hk
      exact absurd hk (Nat.not_lt_zero _)
    | succ k ih =>
      intro i H locs ls hk hi ht hP hS hl
      refine lv_iload_n hx hb dX0_place_2 rfl (lv_at hl 2 rfl) ?_
      refine lv_aload_n hx hb dX0_place_3 rfl (lv_at hl 0 rfl) ?_
      refine va_get (D := D) (ci := 0) (v := .int (nI L.length)) (C := RX0) (T := TX0) (N := 10) hx hb hts in_X0 hown hK hP 0 rfl rfl 8 (by decide) (hts _ q43) (fun _ h9 => h9) rfl dX0_place_4 ?_
      refine z_ge (X := ((i : Nat) : Int)) (Y := ((L.length : Nat) : Int)) (tgt := 28) hx hb dX0_place_7 (by decide) (nI_toInt (by omega)) (nI_toInt (by omega)) (fun hc => ?_) (fun hc => ?_)
      · refine lv_iconst (v := -1) hx hb dX0_place_28 (by decide) ?_
        exact ret _ _ _ _ _ dX0_place_29 (rfl) (Or.inr ⟨by obtain rfl : i = L.length := (by omega); rw [List.take_length] at ht; exact ht, by decide⟩) hS
      · have hi2 : i < L.length := by omega
        have hg : L.getD i 0 ∈ L := getD_mem hi2
        have hg2 := hm _ hg
        refine lv_aload_n hx hb dX0_place_10 rfl (lv_at hl 0 rfl) ?_
        refine va_get (D := D) (ci := 0) (v := .ref (g 4)) (C := RX0) (T := TX0) (N := 10) hx hb hts in_X0 hown hK hP 0 rfl rfl 3 (by decide) (hts _ q38) (fun _ h9 => h9) rfl dX0_place_11 ?_
        refine lv_iload_n hx hb dX0_place_14 rfl (lv_at hl 2 rfl) ?_
        refine xald hx hb hK hP 4 0 rfl rfl (i) (rfl) (by omega) (by decide) dX0_place_15 ?_
        refine tpi (y := nI (L.getD i 0)) (hL i hi2) ?_
        refine lv_iload_n hx hb dX0_place_16 rfl (lv_at hl 1 rfl) ?_
        refine z_ne (X := ((L.getD i 0 : Nat) : Int)) (Y := ((c : Nat) : Int)) (tgt := 22) hx hb dX0_place_17 (by decide) (nI_toInt (by omega)) (nI_toInt (by omega)) (fun hc => ?_) (fun hc => ?_)
        · refine lv_iinc (v := nI (i + 1)) (lv' := [(2, .int (nI (i + 1))), (0, .ref (g 0)), (1, .int (nI c))]) hx hb dX0_place_22 hl (k := 2) rfl (nI_1 _) (by decide) rfl (fun ls hl => ?_)
          refine lv_goto (tgt := 2) hx hb dX0_place_25 (by decide) ?_
          exact ih (i + 1) _ _ _ (by omega) (by omega) (not_take hi2 ht (by omega)) hP hS (lv_sub hl [1, 2, 0] rfl)
        · refine lv_iload_n hx hb dX0_place_20 rfl (lv_at hl 2 rfl) ?_
          exact ret _ _ _ _ _ dX0_place_21 (rfl) (Or.inl ⟨by obtain rfl : L.getD i 0 = c := (by omega); exact hg, by rw [nI_toInt (by omega)]; omega⟩) hS
  refine lv_iconst (v := 0) hx hb dX0_place_0 (by decide) ?_
  refine lv_istore_n (lv' := [(2, .int 0), (0, .ref (g 0)), (1, .int (nI c))]) hx hb dX0_place_1 rfl hl (by decide) rfl (fun ls hl => ?_)
  exact lp _ 0 _ _ _ (Nat.lt_succ_self _) (by omega) (by simp) hP hS (lv_sub hl [1, 2, 0] rfl)
end
section
/-! the reference's methods that only read -/
theorem mulb {a n : Nat} {b : Int} (ha : a ≤ n) (hb : -6 ≤ b ∧ b ≤ 6) : -6 * (n : Int) ≤ (a : Int) * b ∧ (a : Int) * b ≤ 6 * (n : Int) := by
  have h1 : (a : Int) * b ≤ (a : Int) * 6 := Int.mul_le_mul_of_nonneg_left hb.2 (by omega)
  have h2 : (a : Int) * (-6) ≤ (a : Int) * b := Int.mul_le_mul_of_nonneg_left hb.1 (by omega)
  omega
def l3g (w : Nat → Int) (n : Nat) (z : Int) (x y : Nat) : Nat := if (x : Int) * w 2 + (y : Int) * w 3 + ((n - x - y : Nat) : Int) * w 4 = z then 1 else 0
def l3r (w : Nat → Int) (n : Nat) (z : Int) (x : Nat) : Nat := sumk (l3g w n z x) (n - x + 1)
theorem l3_r (w : Nat → Int) (n : Nat) (z : Int) : l3 w n z = sumk (l3r w n z) (n + 1) := rfl
theorem l3s1 {w : Nat → Int} {n : Nat} {z : Int} {x y : Nat} (h : (x : Int) * w 2 + (y : Int) * w 3 + ((n - x - y : Nat) : Int) * w 4 = z) : sumk (l3r w n z) x + sumk (l3g w n z x) (y + 1) = sumk (l3r w n z) x + sumk (l3g w n z x) y + 1 := by
  have e : sumk (l3g w n z x) (y + 1) = sumk (l3g w n z x) y + l3g w n z x y := rfl
  have e2 : l3g w n z x y = 1 := if_pos h
  omega
theorem l3s0 {w : Nat → Int} {n : Nat} {z : Int} {x y : Nat} (h : ¬ (x : Int) * w 2 + (y : Int) * w 3 + ((n - x - y : Nat) : Int) * w 4 = z) : sumk (l3r w n z) x + sumk (l3g w n z x) (y + 1) = sumk (l3r w n z) x + sumk (l3g w n z x) y := by
  have e : sumk (l3g w n z x) (y + 1) = sumk (l3g w n z x) y + l3g w n z x y := rfl
  have e2 : l3g w n z x y = 0 := if_neg h
  omega
def prk (c : Nat) : Nat → Nat
  | 0 => 1
  | k + 1 => prk c k * (dg c k + 1)
def u_r (c x : Nat) : Nat → Nat
  | 0 => x
  | j + 1 => u_r c x j / (dg c (4 - j) + 1)
def u_a (c x : Nat) : Nat → Nat
  | 0 => 0
  | j + 1 => u_a c x j + u_r c x j % (dg c (4 - j) + 1) * 7 ^ j
theorem u_r_le (c x : Nat) : ∀ j, u_r c x j ≤ x
  | 0 => Nat.le_refl _
  | j + 1 => Nat.le_trans (Nat.div_le_self _ _) (u_r_le c x j)

abbrev rX1_digit : Room := { frames := 0, cells := 0, slots := 0, locals := 0 }
set_option maxHeartbeats 4000000 in
set_option maxRecDepth 100000 in
theorem metX1_digit {l : Launch} {D : va_G} {d : ClassId} {g : Nat → Nat} {fw fc fm ff : Nat → Int32} {rdy cnt bal : Int32} {hz : Nat} {c i : Nat} (hc0 : c < 16807) (hi : i < 5) : mRO l yX1_digit cX1_digit 3 .int rX1_digit [.ref (g 0), .int (nI c), .int (nI i)] D d (wM g d fw fc fm ff rdy cnt bal) hz (fun r => r = nI (dg c i)) := by
  refine mRO.ofW (by decide) (Nat.le_of_ble_eq_true rfl) ?_
  intro p e s m args below meth mc Q A ls S hP hK hA hS hl ret
  have S : CallFix p m mc cX1_digit 3 s args lw_all RX1 := S
  have hx := S.1
  have hb := S.2.1
  have hown := S.2.2.2.1
  have hts := S.2.2.2.2
  have hl : lv_has ls 3 [(0, .ref (g 0)), (1, .int (nI c)), (2, .int (nI i))] := hl
  refine lv_iload_n hx hb dX1_digit_0 rfl (lv_at hl 2 rfl) ?_
  refine z0_ne (X := ((i : Nat) : Int)) (tgt := 10) hx hb dX1_digit_1 (by decide) (nI_toInt (by omega)) (fun hc => ?_) (fun hc => ?_)
  · refine lv_iload_n hx hb dX1_digit_10 rfl (lv_at hl 2 rfl) ?_
    refine lv_iconst (v := 1) hx hb dX1_digit_11 (by decide) ?_
    refine z_ne (X := ((i : Nat) : Int)) (Y := 1) (tgt := 24) hx hb dX1_digit_12 (by decide) (nI_toInt (by omega)) (by decide) (fun hc => ?_) (fun hc => ?_)
    · refine lv_iload_n hx hb dX1_digit_24 rfl (lv_at hl 2 rfl) ?_
      refine lv_iconst (v := 2) hx hb dX1_digit_25 (by decide) ?_
      refine z_ne (X := ((i : Nat) : Int)) (Y := 2) (tgt := 37) hx hb dX1_digit_26 (by decide) (nI_toInt (by omega)) (by decide) (fun hc => ?_) (fun hc => ?_)
      · refine lv_iload_n hx hb dX1_digit_37 rfl (lv_at hl 2 rfl) ?_
        refine lv_iconst (v := 3) hx hb dX1_digit_38 (by decide) ?_
        refine z_ne (X := ((i : Nat) : Int)) (Y := 3) (tgt := 52) hx hb dX1_digit_39 (by decide) (nI_toInt (by omega)) (by decide) (fun hc => ?_) (fun hc => ?_)
        · refine lv_iload_n hx hb dX1_digit_52 rfl (lv_at hl 1 rfl) ?_
          refine lv_bipush (v := 7) hx hb dX1_digit_53 (by decide) ?_
          refine lv_irem hx hb dX1_digit_55 (by decide) ?_
          refine tpi (y := nI (c % 7)) (pk_rem (d := 7) (by omega) (by decide) (by decide)) ?_
          exact ret _ _ _ _ _ dX1_digit_56 (rfl) (by obtain rfl : i = 4 := (by omega); rw [dg4]) hS
        · refine lv_iload_n hx hb dX1_digit_42 rfl (lv_at hl 1 rfl) ?_
          refine lv_bipush (v := 7) hx hb dX1_digit_43 (by decide) ?_
          refine lv_idiv hx hb dX1_digit_45 (by decide) ?_
          refine tpi (y := nI (c / 7)) (pk_div (d := 7) (by omega) (by decide) (by decide)) ?_
          refine lv_bipush (v := 7) hx hb dX1_digit_46 (by decide) ?_
          refine lv_irem hx hb dX1_digit_48 (by decide) ?_
          refine tpi (y := nI (c / 7 % 7)) (pk_rem (d := 7) (Nat.lt_of_le_of_lt (Nat.div_le_self _ _) (by omega)) (by decide) (by decide)) ?_
          refine lv_goto (tgt := 56) hx hb dX1_digit_49 (by decide) ?_
          exact ret _ _ _ _ _ dX1_digit_56 (rfl) (by obtain rfl : i = 3 := (by omega); rfl) hS
      · refine lv_iload_n hx hb dX1_digit_29 rfl (lv_at hl 1 rfl) ?_
        refine lv_bipush (v := 49) hx hb dX1_digit_30 (by decide) ?_
        refine lv_idiv hx hb dX1_digit_32 (by decide) ?_
        refine tpi (y := nI (c / 49)) (pk_div (d := 49) (by omega) (by decide) (by decide)) ?_
        refine lv_bipush (v := 7) hx hb dX1_digit_33 (by decide) ?_
        refine lv_irem hx hb dX1_digit_35 (by decide) ?_
        refine tpi (y := nI (c / 49 % 7)) (pk_rem (d := 7) (Nat.lt_of_le_of_lt (Nat.div_le_self _ _) (by omega)) (by decide) (by decide)) ?_
        exact ret _ _ _ _ _ dX1_digit_36 (rfl) (by obtain rfl : i = 2 := (by omega); rfl) hS
    · refine lv_iload_n hx hb dX1_digit_15 rfl (lv_at hl 1 rfl) ?_
      refine lv_sipush (v := 343) hx hb dX1_digit_16 (by decide) ?_
      refine lv_idiv hx hb dX1_digit_19 (by decide) ?_
      refine tpi (y := nI (c / 343)) (pk_div (d := 343) (by omega) (by decide) (by decide)) ?_
      refine lv_bipush (v := 7) hx hb dX1_digit_20 (by decide) ?_
      refine lv_irem hx hb dX1_digit_22 (by decide) ?_
      refine tpi (y := nI (c / 343 % 7)) (pk_rem (d := 7) (Nat.lt_of_le_of_lt (Nat.div_le_self _ _) (by omega)) (by decide) (by decide)) ?_
      exact ret _ _ _ _ _ dX1_digit_23 (rfl) (by obtain rfl : i = 1 := (by omega); rfl) hS
  · refine lv_iload_n hx hb dX1_digit_4 rfl (lv_at hl 1 rfl) ?_
    refine lv_sipush (v := 2401) hx hb dX1_digit_5 (by decide) ?_
    refine lv_idiv hx hb dX1_digit_8 (by decide) ?_
    refine tpi (y := nI (c / 2401)) (pk_div (d := 2401) (by omega) (by decide) (by decide)) ?_
    exact ret _ _ _ _ _ dX1_digit_9 (rfl) (by obtain rfl : i = 0 := (by omega); show nI (c / 2401) = nI (c / 2401 % 7); rw [Nat.mod_eq_of_lt (by omega)]) hS

abbrev rX1_badCode : Room := { frames := 0, cells := 0, slots := 0, locals := 0 }
set_option maxHeartbeats 4000000 in
set_option maxRecDepth 100000 in
theorem metX1_badCode {l : Launch} {D : va_G} {d : ClassId} {g : Nat → Nat} {fw fc fm ff : Nat → Int32} {rdy cnt bal : Int32} {hz : Nat} {x : Int32} : mRO l yX1_badCode cX1_badCode 2 .boolean rX1_badCode [.ref (g 0), .int x] D d (wM g d fw fc fm ff rdy cnt bal) hz (fun r => r = bI (decide (¬ (0 ≤ x.toInt ∧ x.toInt < 16807)))) := by
  refine mRO.ofW (by decide) (Nat.le_of_ble_eq_true rfl) ?_
  intro p e s m args below meth mc Q A ls S hP hK hA hS hl ret
  have S : CallFix p m mc cX1_badCode 2 s args lw_all RX1 := S
  have hx := S.1
  have hb := S.2.1
  have hown := S.2.2.2.1
  have hts := S.2.2.2.2
  have hl : lv_has ls 2 [(0, .ref (g 0)), (1, .int x)] := hl
  refine lv_iload_n hx hb dX1_badCode_0 rfl (lv_at hl 1 rfl) ?_
  refine z0_lt (X := x.toInt) (tgt := 11) hx hb dX1_badCode_1 (by decide) rfl (fun hc => ?_) (fun hc => ?_)
  · refine lv_iconst (v := 1) hx hb dX1_badCode_11 (by decide) ?_
    refine lv_goto (tgt := 16) hx hb dX1_badCode_12 (by decide) ?_
    exact ret _ _ _ _ _ dX1_badCode_16 (rfl) (bI_t (by omega)) hS
  · refine lv_iload_n hx hb dX1_badCode_4 rfl (lv_at hl 1 rfl) ?_
    refine lv_sipush (v := 16806) hx hb dX1_badCode_5 (by decide) ?_
    refine z_le (X := x.toInt) (Y := 16806) (tgt := 15) hx hb dX1_badCode_8 (by decide) rfl (by decide) (fun hc => ?_) (fun hc => ?_)
    · refine lv_iconst (v := 0) hx hb dX1_badCode_15 (by decide) ?_
      exact ret _ _ _ _ _ dX1_badCode_16 (rfl) (bI_f (by omega)) hS
    · refine lv_iconst (v := 1) hx hb dX1_badCode_11 (by decide) ?_
      refine lv_goto (tgt := 16) hx hb dX1_badCode_12 (by decide) ?_
      exact ret _ _ _ _ _ dX1_badCode_16 (rfl) (bI_t (by omega)) hS

abbrev rX1_balanced : Room := { frames := 1, cells := 0, slots := 0, locals := 22 }
set_option maxHeartbeats 4000000 in
set_option maxRecDepth 100000 in
theorem metX1_balanced {l : Launch} {D : va_G} {d : ClassId} {g : Nat → Nat} {fw fc fm ff : Nat → Int32} {rdy cnt bal : Int32} {hz : Nat} {c : Nat} {w : Nat → Int} (hw : hww fw w) (ho : okw w) (hc0 : c < 16807) : mRO l yX1_balanced cX1_balanced 4 .boolean rX1_balanced [.ref (g 0), .int (nI c)] D d (wM g d fw fc fm ff rdy cnt bal) hz (fun r => r = bI (decide (sm w c = 0))) := by
  refine mRO.ofW (by decide) (Nat.le_of_ble_eq_true rfl) ?_
  intro p e s m args below meth mc Q A ls S hP hK hA hS hl ret
  have S : CallFix p m mc cX1_balanced 4 s args lw_all RX1 := S
  have hx := S.1
  have hb := S.2.1
  have hown := S.2.2.2.1
  have hts := S.2.2.2.2
  have hl : lv_has ls 4 [(0, .ref (g 0)), (1, .int (nI c))] := hl
  have hbd : -180 ≤ smk w c 5 ∧ smk w c 5 ≤ 180 := sm_bound ho c
  have lp : ∀ (k : Nat) (i : Nat) (H : Heap) (locs : List Loc) (ls : Array Slot), 5 - i < k → i ≤ 5 → va_P D vwCl (wM g d fw fc fm ff rdy cnt bal) H → va_S A s.heap H locs → lv_has ls 4 [(0, .ref (g 0)), (1, .int (nI c)), (2, .int (iI (smk w c i))), (3, .int (nI i))] → W p l e rX1_balanced s m args below meth mc H locs 0 0 Q (F0 m 4 ls []) := by
    intro k
    induction k with
    | zero =>
      intro i H locs ls hk
      exact absurd hk (Nat.not_lt_zero _)
    | succ k ih =>
      intro i H locs ls hk hi hP hS hl
      refine lv_iload_n hx hb dX1_balanced_4 rfl (lv_at hl 3 rfl) ?_
      refine lv_iconst (v := 5) hx hb dX1_balanced_5 (by decide) ?_
      refine z_ge (X := ((i : Nat) : Int)) (Y := 5) (tgt := 31) hx hb dX1_balanced_6 (by decide) (nI_toInt (by omega)) (by decide) (fun hc => ?_) (fun hc => ?_)
      · obtain rfl : i = 5 := (by omega)
        refine lv_iload_n hx hb dX1_balanced_31 rfl (lv_at hl 2 rfl) ?_
        refine z0_ne (X := (smk w c 5)) (tgt := 39) hx hb dX1_balanced_32 (by decide) (iI_toInt (by omega) (by omega)) (fun hc => ?_) (fun hc => ?_)
        · refine lv_iconst (v := 0) hx hb dX1_balanced_39 (by decide) ?_
          exact ret _ _ _ _ _ dX1_balanced_40 (rfl) (bI_f hc) hS
        · refine lv_iconst (v := 1) hx hb dX1_balanced_35 (by decide) ?_
          refine lv_goto (tgt := 40) hx hb dX1_balanced_36 (by decide) ?_
          exact ret _ _ _ _ _ dX1_balanced_40 (rfl) (bI_t hc) hS
      · refine lv_iload_n hx hb dX1_balanced_9 rfl (lv_at hl 2 rfl) ?_
        refine lv_aload_n hx hb dX1_balanced_10 rfl (lv_at hl 0 rfl) ?_
        refine lv_iload_n hx hb dX1_balanced_11 rfl (lv_at hl 1 rfl) ?_
        refine lv_iload_n hx hb dX1_balanced_12 rfl (lv_at hl 3 rfl) ?_
        refine cRO (As := [.int (nI c), .int (nI i)]) (rest := [.int (iI (smk w c i))]) S (metX1_digit (c := c) (i := i) hc0 (by omega)) (cwV 2 hts (lw_V q233 q235 qs15 q26 q236) rfl rfl rfl (by decide +kernel) ⟨Nat.le_of_ble_eq_true rfl, Nat.le_of_ble_eq_true rfl⟩) hK hP hS hA rfl rfl rfl hl.1 rfl (Nat.le_of_ble_eq_true rfl) dX1_balanced_13 ⟨Nat.zero_le _, Nat.zero_le _⟩ (fun r9 H locs hr hP hS => ?_)
        obtain rfl : r9 = nI (dg c i) := hr
        refine lv_aload_n hx hb dX1_balanced_16 rfl (lv_at hl 0 rfl) ?_
        refine va_get (D := D) (ci := 1) (v := .ref (g 1)) (C := RX1) (T := TX1) (N := 7) hx hb hts in_X1 hown hK hP 0 rfl rfl 0 (by decide) (hts _ q187) (fun _ h9 => h9) rfl dX1_balanced_17 ?_
        refine lv_iload_n hx hb dX1_balanced_20 rfl (lv_at hl 3 rfl) ?_
        refine xald hx hb hK hP 1 0 rfl rfl (i) (rfl) (by omega) (by decide) dX1_balanced_21 ?_
        refine tpi (y := iI (w i)) (hw i (by omega)) ?_
        refine lv_imul hx hb dX1_balanced_22 ?_
        refine tpi (y := iI ((dg c i : Int) * w i)) (by rw [nI_iI, iI_mul]) ?_
        refine lv_iadd hx hb dX1_balanced_23 ?_
        refine tpi (y := iI (smk w c (i + 1))) (iI_add _ _) ?_
        refine lv_istore_n (lv' := [(2, .int (iI (smk w c (i + 1)))), (0, .ref (g 0)), (1, .int (nI c)), (3, .int (nI i))]) hx hb dX1_balanced_24 rfl hl (by decide) rfl (fun ls hl => ?_)
        refine lv_iinc (v := nI (i + 1)) (lv' := [(3, .int (nI (i + 1))), (2, .int (iI (smk w c (i + 1)))), (0, .ref (g 0)), (1, .int (nI c))]) hx hb dX1_balanced_25 hl (k := 3) rfl (nI_1 _) (by decide) rfl (fun ls hl => ?_)
        refine lv_goto (tgt := 4) hx hb dX1_balanced_28 (by decide) ?_
        exact ih (i + 1) _ _ _ (by omega) (by omega) hP hS (lv_sub hl [2, 3, 1, 0] rfl)
  refine lv_iconst (v := 0) hx hb dX1_balanced_0 (by decide) ?_
  refine lv_istore_n (lv' := [(2, .int 0), (0, .ref (g 0)), (1, .int (nI c))]) hx hb dX1_balanced_1 rfl hl (by decide) rfl (fun ls hl => ?_)
  refine lv_iconst (v := 0) hx hb dX1_balanced_2 (by decide) ?_
  refine lv_istore_n (lv' := [(3, .int 0), (2, .int 0), (0, .ref (g 0)), (1, .int (nI c))]) hx hb dX1_balanced_3 rfl hl (by decide) rfl (fun ls hl => ?_)
  exact lp _ 0 _ _ _ (Nat.lt_succ_self _) (by omega) hP hS (lv_sub hl [2, 3, 1, 0] rfl)

abbrev rX1_part : Room := { frames := 1, cells := 0, slots := 0, locals := 22 }
set_option maxHeartbeats 4000000 in
set_option maxRecDepth 100000 in
theorem metX1_part {l : Launch} {D : va_G} {d : ClassId} {g : Nat → Nat} {fw fc fm ff : Nat → Int32} {rdy cnt bal : Int32} {hz : Nat} {a b : Nat} (ha0 : a < 16807) (hb0 : b < 16807) : mRO l yX1_part cX1_part 4 .boolean rX1_part [.ref (g 0), .int (nI a), .int (nI b)] D d (wM g d fw fc fm ff rdy cnt bal) hz (fun r => r = bI (pt a b)) := by
  refine mRO.ofW (by decide) (Nat.le_of_ble_eq_true rfl) ?_
  intro p e s m args below meth mc Q A ls S hP hK hA hS hl ret
  have S : CallFix p m mc cX1_part 4 s args lw_all RX1 := S
  have hx := S.1
  have hb := S.2.1
  have hown := S.2.2.2.1
  have hts := S.2.2.2.2
  have hl : lv_has ls 4 [(0, .ref (g 0)), (1, .int (nI a)), (2, .int (nI b))] := hl
  have lp : ∀ (k : Nat) (i : Nat) (H : Heap) (locs : List Loc) (ls : Array Slot), 5 - i < k → i ≤ 5 → ptk a b i = true → va_P D vwCl (wM g d fw fc fm ff rdy cnt bal) H → va_S A s.heap H locs → lv_has ls 4 [(0, .ref (g 0)), (1, .int (nI a)), (2, .int (nI b)), (3, .int (nI i))] → W p l e rX1_part s m args below meth mc H locs 0 0 Q (F0 m 2 ls []) := by
    intro k
    induction k with
    | zero =>
      intro i H locs ls hk
      exact absurd hk (Nat.not_lt_zero _)
    | succ k ih =>
      intro i H locs ls hk hi ht hP hS hl
      refine lv_iload_n hx hb dX1_part_2 rfl (lv_at hl 3 rfl) ?_
      refine lv_iconst (v := 5) hx hb dX1_part_3 (by decide) ?_
      refine z_ge (X := ((i : Nat) : Int)) (Y := 5) (tgt := 30) hx hb dX1_part_4 (by decide) (nI_toInt (by omega)) (by decide) (fun hc => ?_) (fun hc => ?_)
      · refine lv_iconst (v := 1) hx hb dX1_part_30 (by decide) ?_
        exact ret _ _ _ _ _ dX1_part_31 (rfl) (by obtain rfl : i = 5 := (by omega); show (1 : Int32) = bI (ptk a b 5); rw [ht]; rfl) hS
      · refine lv_aload_n hx hb dX1_part_7 rfl (lv_at hl 0 rfl) ?_
        refine lv_iload_n hx hb dX1_part_8 rfl (lv_at hl 1 rfl) ?_
        refine lv_iload_n hx hb dX1_part_9 rfl (lv_at hl 3 rfl) ?_
        refine cRO (As := [.int (nI a), .int (nI i)]) (rest := []) S (metX1_digit (c := a) (i := i) ha0 (by omega)) (cwV 2 hts (lw_V q233 q235 qs15 q26 q236) rfl rfl rfl (by decide +kernel) ⟨Nat.le_of_ble_eq_true rfl, Nat.le_of_ble_eq_true rfl⟩) hK hP hS hA rfl rfl rfl hl.1 rfl (Nat.le_of_ble_eq_true rfl) dX1_part_10 ⟨Nat.zero_le _, Nat.zero_le _⟩ (fun r9 H locs hr hP hS => ?_)
        obtain rfl : r9 = nI (dg a i) := hr
        refine lv_aload_n hx hb dX1_part_13 rfl (lv_at hl 0 rfl) ?_
        refine lv_iload_n hx hb dX1_part_14 rfl (lv_at hl 2 rfl) ?_
        refine lv_iload_n hx hb dX1_part_15 rfl (lv_at hl 3 rfl) ?_
        refine cRO (As := [.int (nI b), .int (nI i)]) (rest := [.int (nI (dg a i))]) S (metX1_digit (c := b) (i := i) hb0 (by omega)) (cwV 2 hts (lw_V q233 q235 qs15 q26 q236) rfl rfl rfl (by decide +kernel) ⟨Nat.le_of_ble_eq_true rfl, Nat.le_of_ble_eq_true rfl⟩) hK hP hS hA rfl rfl rfl hl.1 rfl (Nat.le_of_ble_eq_true rfl) dX1_part_16 ⟨Nat.zero_le _, Nat.zero_le _⟩ (fun r9 H locs hr hP hS => ?_)
        obtain rfl : r9 = nI (dg b i) := hr
        have q1 := dg_lt a i
        have q2 := dg_lt b i
        refine z_le (X := ((dg a i : Nat) : Int)) (Y := ((dg b i : Nat) : Int)) (tgt := 24) hx hb dX1_part_19 (by decide) (nI_toInt (by omega)) (nI_toInt (by omega)) (fun hc => ?_) (fun hc => ?_)
        · refine lv_iinc (v := nI (i + 1)) (lv' := [(3, .int (nI (i + 1))), (0, .ref (g 0)), (1, .int (nI a)), (2, .int (nI b))]) hx hb dX1_part_24 hl (k := 3) rfl (nI_1 _) (by decide) rfl (fun ls hl => ?_)
          refine lv_goto (tgt := 2) hx hb dX1_part_27 (by decide) ?_
          exact ih (i + 1) _ _ _ (by omega) (by omega) (by unfold ptk; rw [ht, decide_eq_true (by omega)]; rfl) hP hS (lv_sub hl [1, 2, 3, 0] rfl)
        · refine lv_iconst (v := 0) hx hb dX1_part_22 (by decide) ?_
          exact ret _ _ _ _ _ dX1_part_23 (rfl) (by cases hh : pt a b with | false => rfl | true => exact absurd (ptk_le (k := 5) (i := i) hh (by omega)) (by omega)) hS
  refine lv_iconst (v := 0) hx hb dX1_part_0 (by decide) ?_
  refine lv_istore_n (lv' := [(3, .int 0), (0, .ref (g 0)), (1, .int (nI a)), (2, .int (nI b))]) hx hb dX1_part_1 rfl hl (by decide) rfl (fun ls hl => ?_)
  exact lp _ 0 _ _ _ (Nat.lt_succ_self _) (by omega) rfl hP hS (lv_sub hl [1, 2, 3, 0] rfl)

abbrev rX1_alone : Room := { frames := 2, cells := 0, slots := 0, locals := 45 }
set_option maxHeartbeats 4000000 in
set_option maxRecDepth 100000 in
theorem metX1_alone {l : Launch} {D : va_G} {d : ClassId} {g : Nat → Nat} {fw fc fm ff : Nat → Int32} {rdy cnt bal : Int32} {hz : Nat} {c : Nat} {L : List Nat} (hL : hli fc L) (hn : cnt = nI L.length) (hlen : L.length ≤ 2000) (hm : ∀ a, a ∈ L → a < 16807) (hc0 : c < 16807) : mRO l yX1_alone cX1_alone 3 .boolean rX1_alone [.ref (g 0), .int (nI c)] D d (wM g d fw fc fm ff rdy cnt bal) hz (fun r => r = bI (!hp L c)) := by
  refine mRO.ofW (by decide) (Nat.le_of_ble_eq_true rfl) ?_
  intro p e s m args below meth mc Q A ls S hP hK hA hS hl ret
  have S : CallFix p m mc cX1_alone 3 s args lw_all RX1 := S
  have hx := S.1
  have hb := S.2.1
  have hown := S.2.2.2.1
  have hts := S.2.2.2.2
  have hl : lv_has ls 3 [(0, .ref (g 0)), (1, .int (nI c))] := hl
  subst hn
  have lp : ∀ (k : Nat) (i : Nat) (H : Heap) (locs : List Loc) (ls : Array Slot), L.length - i < k → i ≤ L.length → hp (L.take i) c = false → va_P D vwCl (wM g d fw fc fm ff rdy (nI L.length) bal) H → va_S A s.heap H locs → lv_has ls 3 [(0, .ref (g 0)), (1, .int (nI c)), (2, .int (nI i))] → W p l e rX1_alone s m args below meth mc H locs 0 0 Q (F0 m 2 ls []) := by
    intro k
    induction k with
    | zero =>
      intro i H locs ls hk
      exact absurd hk (Nat.not_lt_zero _)
    | succ k ih =>
      intro i H locs ls hk hi ht hP hS hl
      refine lv_iload_n hx hb dX1_alone_2 rfl (lv_at hl 2 rfl) ?_
      refine lv_aload_n hx hb dX1_alone_3 rfl (lv_at hl 0 rfl) ?_
      refine va_get (D := D) (ci := 1) (v := .int (nI L.length)) (C := RX1) (T := TX1) (N := 7) hx hb hts in_X1 hown hK hP 0 rfl rfl 2 (by decide) (hts _ q189) (fun _ h9 => h9) rfl dX1_alone_4 ?_
      refine z_ge (X := ((i : Nat) : Int)) (Y := ((L.length : Nat) : Int)) (tgt := 39) hx hb dX1_alone_7 (by decide) (nI_toInt (by omega)) (nI_toInt (by omega)) (fun hc => ?_) (fun hc => ?_)
      · refine lv_iconst (v := 1) hx hb dX1_alone_39 (by decide) ?_
        exact ret _ _ _ _ _ dX1_alone_40 (rfl) (by obtain rfl : i = L.length := (by omega); rw [List.take_length] at ht; rw [ht]; rfl) hS
      · have hi2 : i < L.length := by omega
        have hg : L.getD i 0 ∈ L := getD_mem hi2
        have hg2 := hm _ hg
        refine lv_iload_n hx hb dX1_alone_10 rfl (lv_at hl 2 rfl) ?_
        refine lv_sipush (v := 2000) hx hb dX1_alone_11 (by decide) ?_
        refine z_ge (X := ((i : Nat) : Int)) (Y := 2000) (tgt := 39) hx hb dX1_alone_14 (by decide) (nI_toInt (by omega)) (by decide) (fun hc => ?_) (fun hc => ?_)
        · omega
        · refine lv_aload_n hx hb dX1_alone_17 rfl (lv_at hl 0 rfl) ?_
          refine lv_aload_n hx hb dX1_alone_18 rfl (lv_at hl 0 rfl) ?_
          refine va_get (D := D) (ci := 1) (v := .ref (g 2)) (C := RX1) (T := TX1) (N := 7) hx hb hts in_X1 hown hK hP 0 rfl rfl 4 (by decide) (hts _ q191) (fun _ h9 => h9) rfl dX1_alone_19 ?_
          refine lv_iload_n hx hb dX1_alone_22 rfl (lv_at hl 2 rfl) ?_
          refine xald hx hb hK hP 2 0 rfl rfl (i) (rfl) (by omega) (by decide) dX1_alone_23 ?_
          refine tpi (y := nI (L.getD i 0)) (hL i hi2) ?_
          refine lv_iload_n hx hb dX1_alone_24 rfl (lv_at hl 1 rfl) ?_
          refine cRO (As := [.int (nI (L.getD i 0)), .int (nI c)]) (rest := []) S (metX1_part (a := L.getD i 0) (b := c) (by omega) hc0) (cwV 2 hts (lw_V q249 q251 qs18 q26 q252) rfl rfl rfl (by decide +kernel) ⟨Nat.le_of_ble_eq_true rfl, Nat.le_of_ble_eq_true rfl⟩) hK hP hS hA rfl rfl rfl hl.1 rfl (Nat.le_of_ble_eq_true rfl) dX1_alone_25 ⟨Nat.zero_le _, Nat.zero_le _⟩ (fun r9 H locs hr hP hS => ?_)
          obtain rfl : r9 = bI (pt (L.getD i 0) c) := hr
          refine b_eq (b := pt (L.getD i 0) c) (tgt := 33) hx hb dX1_alone_28 (by decide) (fun hc => ?_) (fun hc => ?_)
          · refine lv_iinc (v := nI (i + 1)) (lv' := [(2, .int (nI (i + 1))), (0, .ref (g 0)), (1, .int (nI c))]) hx hb dX1_alone_33 hl (k := 2) rfl (nI_1 _) (by decide) rfl (fun ls hl => ?_)
            refine lv_goto (tgt := 2) hx hb dX1_alone_36 (by decide) ?_
            exact ih (i + 1) _ _ _ (by omega) (by omega) (hp_take hi2 ht hc) hP hS (lv_sub hl [1, 2, 0] rfl)
          · refine lv_iconst (v := 0) hx hb dX1_alone_31 (by decide) ?_
            exact ret _ _ _ _ _ dX1_alone_32 (rfl) (by rw [hp_iff.mpr ⟨_, hg, hc⟩]; rfl) hS
  refine lv_iconst (v := 0) hx hb dX1_alone_0 (by decide) ?_
  refine lv_istore_n (lv' := [(2, .int 0), (0, .ref (g 0)), (1, .int (nI c))]) hx hb dX1_alone_1 rfl hl (by decide) rfl (fun ls hl => ?_)
  exact lp _ 0 _ _ _ (Nat.lt_succ_self _) (by omega) rfl hP hS (lv_sub hl [1, 2, 0] rfl)

abbrev rX1_lastThree : Room := { frames := 0, cells := 0, slots := 0, locals := 0 }
set_option maxHeartbeats 4000000 in
set_option maxRecDepth 100000 in
theorem metX1_lastThree {l : Launch} {D : va_G} {d : ClassId} {g : Nat → Nat} {fw fc fm ff : Nat → Int32} {rdy cnt bal : Int32} {hz : Nat} {n : Nat} {z : Int} {w : Nat → Int} (hw : hww fw w) (ho : okw w) (hn : n ≤ 20) (hz0 : -1000 ≤ z ∧ z ≤ 1000) : mRO l yX1_lastThree cX1_lastThree 6 .int rX1_lastThree [.ref (g 0), .int (nI n), .int (iI z)] D d (wM g d fw fc fm ff rdy cnt bal) hz (fun r => r = nI (l3 w n z)) := by
  refine mRO.ofW (by decide) (Nat.le_of_ble_eq_true rfl) ?_
  intro p e s m args below meth mc Q A ls S hP hK hA hS hl ret
  have S : CallFix p m mc cX1_lastThree 6 s args lw_all RX1 := S
  have hx := S.1
  have hb := S.2.1
  have hown := S.2.2.2.1
  have hts := S.2.2.2.2
  have hl : lv_has ls 6 [(0, .ref (g 0)), (1, .int (nI n)), (2, .int (iI z))] := hl
  have o2 := ho 2 (by decide)
  have o3 := ho 3 (by decide)
  have o4 := ho 4 (by decide)
  have lp : ∀ (k : Nat) (x : Nat) (H : Heap) (locs : List Loc) (ls : Array Slot), n + 1 - x < k → x ≤ n + 1 → va_P D vwCl (wM g d fw fc fm ff rdy cnt bal) H → va_S A s.heap H locs → lv_has ls 6 [(0, .ref (g 0)), (1, .int (nI n)), (2, .int (iI z)), (3, .int (nI (sumk (l3r w n z) x))), (4, .int (nI x))] → W p l e rX1_lastThree s m args below meth mc H locs 0 0 Q (F0 m 5 ls []) := by
    intro k
    induction k with
    | zero =>
      intro x H locs ls hk
      exact absurd hk (Nat.not_lt_zero _)
    | succ k ih =>
      intro x H locs ls hk hx0 hP hS hl
      refine lv_iload hx hb dX1_lastThree_5 (lv_at hl 4 rfl) ?_
      refine lv_iload_n hx hb dX1_lastThree_7 rfl (lv_at hl 1 rfl) ?_
      refine z_gt (X := ((x : Nat) : Int)) (Y := ((n : Nat) : Int)) (tgt := 76) hx hb dX1_lastThree_8 (by decide) (nI_toInt (by omega)) (nI_toInt (by omega)) (fun hc => ?_) (fun hc => ?_)
      · refine lv_iload_n hx hb dX1_lastThree_76 rfl (lv_at hl 3 rfl) ?_
        exact ret _ _ _ _ _ dX1_lastThree_77 (rfl) (by obtain rfl : x = n + 1 := (by omega); rfl) hS
      · have lp2 : ∀ (k : Nat) (y : Nat) (H : Heap) (locs : List Loc) (ls : Array Slot), n - x + 1 - y < k → y ≤ n - x + 1 → va_P D vwCl (wM g d fw fc fm ff rdy cnt bal) H → va_S A s.heap H locs → lv_has ls 6 [(0, .ref (g 0)), (1, .int (nI n)), (2, .int (iI z)), (3, .int (nI (sumk (l3r w n z) x + sumk (l3g w n z x) y))), (4, .int (nI x)), (5, .int (nI y))] → W p l e rX1_lastThree s m args below meth mc H locs 0 0 Q (F0 m 14 ls []) := by
          intro k
          induction k with
          | zero =>
            intro y H locs ls hk
            exact absurd hk (Nat.not_lt_zero _)
          | succ k ih2 =>
            intro y H locs ls hk hy hP hS hl
            refine lv_iload hx hb dX1_lastThree_14 (lv_at hl 5 rfl) ?_
            refine lv_iload_n hx hb dX1_lastThree_16 rfl (lv_at hl 1 rfl) ?_
            refine lv_iload hx hb dX1_lastThree_17 (lv_at hl 4 rfl) ?_
            refine lv_isub hx hb dX1_lastThree_19 ?_
            refine tpi (y := nI (n - x)) (pk_sub (by omega)) ?_
            refine z_gt (X := ((y : Nat) : Int)) (Y := ((n - x : Nat) : Int)) (tgt := 70) hx hb dX1_lastThree_20 (by decide) (nI_toInt (by omega)) (nI_toInt (by omega)) (fun hc => ?_) (fun hc => ?_)
            · obtain rfl : y = n - x + 1 := (by omega)
              refine lv_iinc (v := nI (x + 1)) (lv' := [(4, .int (nI (x + 1))), (0, .ref (g 0)), (1, .int (nI n)), (2, .int (iI z)), (3, .int (nI (sumk (l3r w n z) x + sumk (l3g w n z x) (n - x + 1)))), (5, .int (nI (n - x + 1)))]) hx hb dX1_lastThree_70 hl (k := 4) rfl (nI_1 _) (by decide) rfl (fun ls hl => ?_)
              refine lv_goto (tgt := 5) hx hb dX1_lastThree_73 (by decide) ?_
              exact ih (x + 1) _ _ _ (by omega) (by omega) hP hS (lv_sub hl [1, 2, 3, 4, 0] rfl)
            · have b2 := mulb (a := x) (n := n) (by omega) o2
              have b3 := mulb (a := y) (n := n) (by omega) o3
              have b4 := mulb (a := n - x - y) (n := n) (by omega) o4
              refine lv_iload hx hb dX1_lastThree_23 (lv_at hl 4 rfl) ?_
              refine lv_aload_n hx hb dX1_lastThree_25 rfl (lv_at hl 0 rfl) ?_
              refine va_get (D := D) (ci := 1) (v := .ref (g 1)) (C := RX1) (T := TX1) (N := 7) hx hb hts in_X1 hown hK hP 0 rfl rfl 0 (by decide) (hts _ q187) (fun _ h9 => h9) rfl dX1_lastThree_26 ?_
              refine lv_iconst (v := 2) hx hb dX1_lastThree_29 (by decide) ?_
              refine xald hx hb hK hP 1 0 rfl rfl (2) (rfl) (by decide) (by decide) dX1_lastThree_30 ?_
              refine tpi (y := iI (w 2)) (hw 2 (by decide)) ?_
              refine lv_imul hx hb dX1_lastThree_31 ?_
              refine tpi (y := iI ((x : Int) * w 2)) (by rw [nI_iI, iI_mul]) ?_
              refine lv_iload hx hb dX1_lastThree_32 (lv_at hl 5 rfl) ?_
              refine lv_aload_n hx hb dX1_lastThree_34 rfl (lv_at hl 0 rfl) ?_
              refine va_get (D := D) (ci := 1) (v := .ref (g 1)) (C := RX1) (T := TX1) (N := 7) hx hb hts in_X1 hown hK hP 0 rfl rfl 0 (by decide) (hts _ q187) (fun _ h9 => h9) rfl dX1_lastThree_35 ?_
              refine lv_iconst (v := 3) hx hb dX1_lastThree_38 (by decide) ?_
              refine xald hx hb hK hP 1 0 rfl rfl (3) (rfl) (by decide) (by decide) dX1_lastThree_39 ?_
              refine tpi (y := iI (w 3)) (hw 3 (by decide)) ?_
              refine lv_imul hx hb dX1_lastThree_40 ?_
              refine tpi (y := iI ((y : Int) * w 3)) (by rw [nI_iI, iI_mul]) ?_
              refine lv_iadd hx hb dX1_lastThree_41 ?_
              refine tpi (y := iI ((x : Int) * w 2 + (y : Int) * w 3)) (iI_add _ _) ?_
              refine lv_iload_n hx hb dX1_lastThree_42 rfl (lv_at hl 1 rfl) ?_
              refine lv_iload hx hb dX1_lastThree_43 (lv_at hl 4 rfl) ?_
              refine lv_isub hx hb dX1_lastThree_45 ?_
              refine tpi (y := nI (n - x)) (pk_sub (by omega)) ?_
              refine lv_iload hx hb dX1_lastThree_46 (lv_at hl 5 rfl) ?_
              refine lv_isub hx hb dX1_lastThree_48 ?_
              refine tpi (y := nI (n - x - y)) (pk_sub (by omega)) ?_
              refine lv_aload_n hx hb dX1_lastThree_49 rfl (lv_at hl 0 rfl) ?_
              refine va_get (D := D) (ci := 1) (v := .ref (g 1)) (C := RX1) (T := TX1) (N := 7) hx hb hts in_X1 hown hK hP 0 rfl rfl 0 (by decide) (hts _ q187) (fun _ h9 => h9) rfl dX1_lastThree_50 ?_
              refine lv_iconst (v := 4) hx hb dX1_lastThree_53 (by decide) ?_
              refine xald hx hb hK hP 1 0 rfl rfl (4) (rfl) (by decide) (by decide) dX1_lastThree_54 ?_
              refine tpi (y := iI (w 4)) (hw 4 (by decide)) ?_
              refine lv_imul hx hb dX1_lastThree_55 ?_
              refine tpi (y := iI (((n - x - y : Nat) : Int) * w 4)) (by rw [nI_iI, iI_mul]) ?_
              refine lv_iadd hx hb dX1_lastThree_56 ?_
              refine tpi (y := iI ((x : Int) * w 2 + (y : Int) * w 3 + ((n - x - y : Nat) : Int) * w 4)) (iI_add _ _) ?_
              refine lv_iload_n hx hb dX1_lastThree_57 rfl (lv_at hl 2 rfl) ?_
              refine z_ne (X := ((x : Int) * w 2 + (y : Int) * w 3 + ((n - x - y : Nat) : Int) * w 4)) (Y := z) (tgt := 64) hx hb dX1_lastThree_58 (by decide) (iI_toInt (by omega) (by omega)) (iI_toInt (by omega) (by omega)) (fun hc => ?_) (fun hc => ?_)
              · refine lv_iinc (v := nI (y + 1)) (lv' := [(5, .int (nI (y + 1))), (0, .ref (g 0)), (1, .int (nI n)), (2, .int (iI z)), (3, .int (nI (sumk (l3r w n z) x + sumk (l3g w n z x) y))), (4, .int (nI x))]) hx hb dX1_lastThree_64 hl (k := 5) rfl (nI_1 _) (by decide) rfl (fun ls hl => ?_)
                refine lv_goto (tgt := 14) hx hb dX1_lastThree_67 (by decide) ?_
                exact ih2 (y + 1) _ _ _ (by omega) (by omega) hP hS (by rw [l3s0 hc]; exact lv_sub hl [1, 2, 3, 4, 5, 0] rfl)
              · refine lv_iinc (v := nI (sumk (l3r w n z) x + sumk (l3g w n z x) (y + 1))) (lv' := [(3, .int (nI (sumk (l3r w n z) x + sumk (l3g w n z x) (y + 1)))), (0, .ref (g 0)), (1, .int (nI n)), (2, .int (iI z)), (4, .int (nI x)), (5, .int (nI y))]) hx hb dX1_lastThree_61 hl (k := 3) rfl ((nI_1 _).trans (congrArg nI (l3s1 hc).symm)) (by decide) rfl (fun ls hl => ?_)
                refine lv_iinc (v := nI (y + 1)) (lv' := [(5, .int (nI (y + 1))), (3, .int (nI (sumk (l3r w n z) x + sumk (l3g w n z x) (y + 1)))), (0, .ref (g 0)), (1, .int (nI n)), (2, .int (iI z)), (4, .int (nI x))]) hx hb dX1_lastThree_64 hl (k := 5) rfl (nI_1 _) (by decide) rfl (fun ls hl => ?_)
                refine lv_goto (tgt := 14) hx hb dX1_lastThree_67 (by decide) ?_
                exact ih2 (y + 1) _ _ _ (by omega) (by omega) hP hS (lv_sub hl [2, 3, 4, 1, 5, 0] rfl)
        refine lv_iconst (v := 0) hx hb dX1_lastThree_11 (by decide) ?_
        refine lv_istore (lv' := [(5, .int 0), (0, .ref (g 0)), (1, .int (nI n)), (2, .int (iI z)), (3, .int (nI (sumk (l3r w n z) x))), (4, .int (nI x))]) hx hb dX1_lastThree_12 hl (by decide) rfl (fun ls hl => ?_)
        exact lp2 _ 0 _ _ _ (Nat.lt_succ_self _) (by omega) hP hS (lv_sub hl [1, 2, 3, 4, 5, 0] rfl)
  refine lv_iconst (v := 0) hx hb dX1_lastThree_0 (by decide) ?_
  refine lv_istore_n (lv' := [(3, .int 0), (0, .ref (g 0)), (1, .int (nI n)), (2, .int (iI z))]) hx hb dX1_lastThree_1 rfl hl (by decide) rfl (fun ls hl => ?_)
  refine lv_iconst (v := 0) hx hb dX1_lastThree_2 (by decide) ?_
  refine lv_istore (lv' := [(4, .int 0), (3, .int 0), (0, .ref (g 0)), (1, .int (nI n)), (2, .int (iI z))]) hx hb dX1_lastThree_3 hl (by decide) rfl (fun ls hl => ?_)
  exact lp _ 0 _ _ _ (Nat.lt_succ_self _) (by omega) hP hS (lv_sub hl [2, 3, 4, 1, 0] rfl)

abbrev rX1_parts : Room := { frames := 1, cells := 0, slots := 0, locals := 22 }
set_option maxHeartbeats 4000000 in
set_option maxRecDepth 100000 in
theorem metX1_parts {l : Launch} {D : va_G} {d : ClassId} {g : Nat → Nat} {fw fc fm ff : Nat → Int32} {rdy cnt bal : Int32} {hz : Nat} {c : Nat} (hc0 : c < 16807) : mRO l yX1_parts cX1_parts 4 .int rX1_parts [.ref (g 0), .int (nI c)] D d (wM g d fw fc fm ff rdy cnt bal) hz (fun r => r = nI (prk c 5)) := by
  refine mRO.ofW (by decide) (Nat.le_of_ble_eq_true rfl) ?_
  intro p e s m args below meth mc Q A ls S hP hK hA hS hl ret
  have S : CallFix p m mc cX1_parts 4 s args lw_all RX1 := S
  have hx := S.1
  have hb := S.2.1
  have hown := S.2.2.2.1
  have hts := S.2.2.2.2
  have hl : lv_has ls 4 [(0, .ref (g 0)), (1, .int (nI c))] := hl
  have lp : ∀ (k : Nat) (i : Nat) (H : Heap) (locs : List Loc) (ls : Array Slot), 5 - i < k → i ≤ 5 → va_P D vwCl (wM g d fw fc fm ff rdy cnt bal) H → va_S A s.heap H locs → lv_has ls 4 [(0, .ref (g 0)), (1, .int (nI c)), (2, .int (nI (prk c i))), (3, .int (nI i))] → W p l e rX1_parts s m args below meth mc H locs 0 0 Q (F0 m 4 ls []) := by
    intro k
    induction k with
    | zero =>
      intro i H locs ls hk
      exact absurd hk (Nat.not_lt_zero _)
    | succ k ih =>
      intro i H locs ls hk hi hP hS hl
      refine lv_iload_n hx hb dX1_parts_4 rfl (lv_at hl 3 rfl) ?_
      refine lv_iconst (v := 5) hx hb dX1_parts_5 (by decide) ?_
      refine z_ge (X := ((i : Nat) : Int)) (Y := 5) (tgt := 26) hx hb dX1_parts_6 (by decide) (nI_toInt (by omega)) (by decide) (fun hc => ?_) (fun hc => ?_)
      · refine lv_iload_n hx hb dX1_parts_26 rfl (lv_at hl 2 rfl) ?_
        exact ret _ _ _ _ _ dX1_parts_27 (rfl) (by obtain rfl : i = 5 := (by omega); rfl) hS
      · refine lv_iload_n hx hb dX1_parts_9 rfl (lv_at hl 2 rfl) ?_
        refine lv_aload_n hx hb dX1_parts_10 rfl (lv_at hl 0 rfl) ?_
        refine lv_iload_n hx hb dX1_parts_11 rfl (lv_at hl 1 rfl) ?_
        refine lv_iload_n hx hb dX1_parts_12 rfl (lv_at hl 3 rfl) ?_
        refine cRO (As := [.int (nI c), .int (nI i)]) (rest := [.int (nI (prk c i))]) S (metX1_digit (c := c) (i := i) hc0 (by omega)) (cwV 2 hts (lw_V q233 q235 qs15 q26 q236) rfl rfl rfl (by decide +kernel) ⟨Nat.le_of_ble_eq_true rfl, Nat.le_of_ble_eq_true rfl⟩) hK hP hS hA rfl rfl rfl hl.1 rfl (Nat.le_of_ble_eq_true rfl) dX1_parts_13 ⟨Nat.zero_le _, Nat.zero_le _⟩ (fun r9 H locs hr hP hS => ?_)
        obtain rfl : r9 = nI (dg c i) := hr
        refine lv_iconst (v := 1) hx hb dX1_parts_16 (by decide) ?_
        refine lv_iadd hx hb dX1_parts_17 ?_
        refine tpi (y := nI (dg c i + 1)) (nI_1 _) ?_
        refine lv_imul hx hb dX1_parts_18 ?_
        refine tpi (y := nI (prk c (i + 1))) (pk_mul _ _) ?_
        refine lv_istore_n (lv' := [(2, .int (nI (prk c (i + 1)))), (0, .ref (g 0)), (1, .int (nI c)), (3, .int (nI i))]) hx hb dX1_parts_19 rfl hl (by decide) rfl (fun ls hl => ?_)
        refine lv_iinc (v := nI (i + 1)) (lv' := [(3, .int (nI (i + 1))), (2, .int (nI (prk c (i + 1)))), (0, .ref (g 0)), (1, .int (nI c))]) hx hb dX1_parts_20 hl (k := 3) rfl (nI_1 _) (by decide) rfl (fun ls hl => ?_)
        refine lv_goto (tgt := 4) hx hb dX1_parts_23 (by decide) ?_
        exact ih (i + 1) _ _ _ (by omega) (by omega) hP hS (lv_sub hl [2, 3, 1, 0] rfl)
  refine lv_iconst (v := 1) hx hb dX1_parts_0 (by decide) ?_
  refine lv_istore_n (lv' := [(2, .int 1), (0, .ref (g 0)), (1, .int (nI c))]) hx hb dX1_parts_1 rfl hl (by decide) rfl (fun ls hl => ?_)
  refine lv_iconst (v := 0) hx hb dX1_parts_2 (by decide) ?_
  refine lv_istore_n (lv' := [(3, .int 0), (2, .int 1), (0, .ref (g 0)), (1, .int (nI c))]) hx hb dX1_parts_3 rfl hl (by decide) rfl (fun ls hl => ?_)
  exact lp _ 0 _ _ _ (Nat.lt_succ_self _) (by omega) hP hS (lv_sub hl [2, 3, 1, 0] rfl)

abbrev rX1_under : Room := { frames := 1, cells := 0, slots := 0, locals := 22 }
set_option maxHeartbeats 4000000 in
set_option maxRecDepth 100000 in
theorem metX1_under {l : Launch} {D : va_G} {d : ClassId} {g : Nat → Nat} {fw fc fm ff : Nat → Int32} {rdy cnt bal : Int32} {hz : Nat} {c x : Nat} (hc0 : c < 16807) (hx0 : x < 2147483648) : mRO l yX1_under cX1_under 8 .int rX1_under [.ref (g 0), .int (nI c), .int (nI x)] D d (wM g d fw fc fm ff rdy cnt bal) hz (fun r => r = nI (u_a c x 5)) := by
  refine mRO.ofW (by decide) (Nat.le_of_ble_eq_true rfl) ?_
  intro p e s m args below meth mc Q A ls S hP hK hA hS hl ret
  have S : CallFix p m mc cX1_under 8 s args lw_all RX1 := S
  have hx := S.1
  have hb := S.2.1
  have hown := S.2.2.2.1
  have hts := S.2.2.2.2
  have hl : lv_has ls 8 [(0, .ref (g 0)), (1, .int (nI c)), (2, .int (nI x))] := hl
  have lp : ∀ (k : Nat) (j : Nat) (H : Heap) (locs : List Loc) (ls : Array Slot), 5 - j < k → j ≤ 5 → va_P D vwCl (wM g d fw fc fm ff rdy cnt bal) H → va_S A s.heap H locs → lv_has ls 8 [(0, .ref (g 0)), (1, .int (nI c)), (2, .int (nI x)), (3, .int (nI (u_r c x j))), (4, .int (nI (u_a c x j))), (5, .int (nI (7 ^ j))), (6, .int (iI (4 - (j : Int))))] → W p l e rX1_under s m args below meth mc H locs 0 0 Q (F0 m 11 ls []) := by
    intro k
    induction k with
    | zero =>
      intro j H locs ls hk
      exact absurd hk (Nat.not_lt_zero _)
    | succ k ih =>
      intro j H locs ls hk hj hP hS hl
      refine lv_iload hx hb dX1_under_11 (lv_at hl 6 rfl) ?_
      refine z0_lt (X := (4 - (j : Int))) (tgt := 66) hx hb dX1_under_13 (by decide) (iI_toInt (by omega) (by omega)) (fun hc => ?_) (fun hc => ?_)
      · refine lv_iload hx hb dX1_under_66 (lv_at hl 4 rfl) ?_
        exact ret _ _ _ _ _ dX1_under_68 (rfl) (by obtain rfl : j = 5 := (by omega); rfl) hS
      · have hu := u_r_le c x j
        have hd := dg_lt c (4 - j)
        refine lv_aload_n hx hb dX1_under_16 rfl (lv_at hl 0 rfl) ?_
        refine lv_iload_n hx hb dX1_under_17 rfl (lv_at hl 1 rfl) ?_
        refine lv_iload hx hb dX1_under_18 (lv_at hl 6 rfl) ?_
        refine tpi (y := nI (4 - j)) (by rw [nI_iI]; congr 1; omega) ?_
        refine cRO (As := [.int (nI c), .int (nI (4 - j))]) (rest := []) S (metX1_digit (c := c) (i := 4 - j) hc0 (by omega)) (cwV 2 hts (lw_V q233 q235 qs15 q26 q236) rfl rfl rfl (by decide +kernel) ⟨Nat.le_of_ble_eq_true rfl, Nat.le_of_ble_eq_true rfl⟩) hK hP hS hA rfl rfl rfl hl.1 rfl (Nat.le_of_ble_eq_true rfl) dX1_under_20 ⟨Nat.zero_le _, Nat.zero_le _⟩ (fun r9 H locs hr hP hS => ?_)
        obtain rfl : r9 = nI (dg c (4 - j)) := hr
        refine lv_iconst (v := 1) hx hb dX1_under_23 (by decide) ?_
        refine lv_iadd hx hb dX1_under_24 ?_
        refine tpi (y := nI (dg c (4 - j) + 1)) (nI_1 _) ?_
        refine lv_istore (lv' := [(7, .int (nI (dg c (4 - j) + 1))), (0, .ref (g 0)), (1, .int (nI c)), (2, .int (nI x)), (3, .int (nI (u_r c x j))), (4, .int (nI (u_a c x j))), (5, .int (nI (7 ^ j))), (6, .int (iI (4 - (j : Int))))]) hx hb dX1_under_25 hl (by decide) rfl (fun ls hl => ?_)
        refine lv_iload hx hb dX1_under_27 (lv_at hl 0 rfl) ?_
        refine lv_iconst (v := 1) hx hb dX1_under_29 (by decide) ?_
        refine z_ge (X := ((dg c (4 - j) + 1 : Nat) : Int)) (Y := 1) (tgt := 36) hx hb dX1_under_30 (by decide) (nI_toInt (by omega)) (by decide) (fun hc => ?_) (fun hc => ?_)
        · refine lv_iload hx hb dX1_under_36 (lv_at hl 5 rfl) ?_
          refine lv_iload_n hx hb dX1_under_38 rfl (lv_at hl 4 rfl) ?_
          refine lv_iload hx hb dX1_under_39 (lv_at hl 0 rfl) ?_
          refine lv_irem hx hb dX1_under_41 (nI_ne0 (by omega) (by omega)) ?_
          refine tpi (y := nI (u_r c x j % (dg c (4 - j) + 1))) (pk_rem (by omega) (by omega) (by omega)) ?_
          refine lv_iload hx hb dX1_under_42 (lv_at hl 6 rfl) ?_
          refine lv_imul hx hb dX1_under_44 ?_
          refine tpi (y := nI (u_r c x j % (dg c (4 - j) + 1) * 7 ^ j)) (pk_mul _ _) ?_
          refine lv_iadd hx hb dX1_under_45 ?_
          refine tpi (y := nI (u_a c x (j + 1))) (nI_add _ _) ?_
          refine lv_istore (lv' := [(4, .int (nI (u_a c x (j + 1)))), (7, .int (nI (dg c (4 - j) + 1))), (0, .ref (g 0)), (1, .int (nI c)), (2, .int (nI x)), (3, .int (nI (u_r c x j))), (5, .int (nI (7 ^ j))), (6, .int (iI (4 - (j : Int))))]) hx hb dX1_under_46 hl (by decide) rfl (fun ls hl => ?_)
          refine lv_iload_n hx hb dX1_under_48 rfl (lv_at hl 5 rfl) ?_
          refine lv_iload hx hb dX1_under_49 (lv_at hl 1 rfl) ?_
          refine lv_idiv hx hb dX1_under_51 (nI_ne0 (by omega) (by omega)) ?_
          refine tpi (y := nI (u_r c x (j + 1))) (pk_div (by omega) (by omega) (by omega)) ?_
          refine lv_istore_n (lv' := [(3, .int (nI (u_r c x (j + 1)))), (4, .int (nI (u_a c x (j + 1)))), (7, .int (nI (dg c (4 - j) + 1))), (0, .ref (g 0)), (1, .int (nI c)), (2, .int (nI x)), (5, .int (nI (7 ^ j))), (6, .int (iI (4 - (j : Int))))]) hx hb dX1_under_52 rfl hl (by decide) rfl (fun ls hl => ?_)
          refine lv_bipush (v := 7) hx hb dX1_under_53 (by decide) ?_
          refine lv_iload hx hb dX1_under_55 (lv_at hl 6 rfl) ?_
          refine lv_imul hx hb dX1_under_57 ?_
          refine tpi (y := nI (7 ^ (j + 1))) (by rw [Nat.pow_succ, Nat.mul_comm]; exact pk_mul 7 _) ?_
          refine lv_istore (lv' := [(5, .int (nI (7 ^ (j + 1)))), (3, .int (nI (u_r c x (j + 1)))), (4, .int (nI (u_a c x (j + 1)))), (7, .int (nI (dg c (4 - j) + 1))), (0, .ref (g 0)), (1, .int (nI c)), (2, .int (nI x)), (6, .int (iI (4 - (j : Int))))]) hx hb dX1_under_58 hl (by decide) rfl (fun ls hl => ?_)
          refine lv_iinc (v := iI (4 - ((j + 1 : Nat) : Int))) (lv' := [(6, .int (iI (4 - ((j + 1 : Nat) : Int)))), (5, .int (nI (7 ^ (j + 1)))), (3, .int (nI (u_r c x (j + 1)))), (4, .int (nI (u_a c x (j + 1)))), (7, .int (nI (dg c (4 - j) + 1))), (0, .ref (g 0)), (1, .int (nI c)), (2, .int (nI x))]) hx hb dX1_under_60 hl (k := 7) rfl (by rw [show Int32.ofInt (-1) = iI (-1) from rfl, iI_add]; congr 1; omega) (by decide) rfl (fun ls hl => ?_)
          refine lv_goto (tgt := 11) hx hb dX1_under_63 (by decide) ?_
          exact ih (j + 1) _ _ _ (by omega) (by omega) hP hS (lv_sub hl [5, 6, 7, 2, 3, 1, 0] rfl)
        · omega
  refine lv_iload_n hx hb dX1_under_0 rfl (lv_at hl 2 rfl) ?_
  refine lv_istore_n (lv' := [(3, .int (nI x)), (0, .ref (g 0)), (1, .int (nI c)), (2, .int (nI x))]) hx hb dX1_under_1 rfl hl (by decide) rfl (fun ls hl => ?_)
  refine lv_iconst (v := 0) hx hb dX1_under_2 (by decide) ?_
  refine lv_istore (lv' := [(4, .int 0), (3, .int (nI x)), (0, .ref (g 0)), (1, .int (nI c)), (2, .int (nI x))]) hx hb dX1_under_3 hl (by decide) rfl (fun ls hl => ?_)
  refine lv_iconst (v := 1) hx hb dX1_under_5 (by decide) ?_
  refine lv_istore (lv' := [(5, .int 1), (4, .int 0), (3, .int (nI x)), (0, .ref (g 0)), (1, .int (nI c)), (2, .int (nI x))]) hx hb dX1_under_6 hl (by decide) rfl (fun ls hl => ?_)
  refine lv_iconst (v := 4) hx hb dX1_under_8 (by decide) ?_
  refine lv_istore (lv' := [(6, .int 4), (5, .int 1), (4, .int 0), (3, .int (nI x)), (0, .ref (g 0)), (1, .int (nI c)), (2, .int (nI x))]) hx hb dX1_under_9 hl (by decide) rfl (fun ls hl => ?_)
  exact lp _ 0 _ _ _ (Nat.lt_succ_self _) (by omega) hP hS (lv_sub hl [4, 5, 6, 3, 2, 1, 0] rfl)
end
section
/-! bits (the first family of BITS.to-paste, a starting text), then maps of bits, mine -/
set_option maxRecDepth 100000
def bt (x : Int32) (i : Nat) : Bool := x.toBitVec.getLsbD i
theorem b_ext {x y : Int32} (h : ∀ i, i < 32 → bt x i = bt y i) : x = y := Int32.toBitVec_inj.mp (BitVec.eq_of_getLsbD_eq (fun i hi => h i hi))
theorem b_or (x y : Int32) (i : Nat) : bt (x ||| y) i = (bt x i || bt y i) := by unfold bt; rw [Int32.toBitVec_or, BitVec.getLsbD_or]
theorem b_and (x y : Int32) (i : Nat) : bt (x &&& y) i = (bt x i && bt y i) := by unfold bt; rw [Int32.toBitVec_and, BitVec.getLsbD_and]
theorem b_xor (x y : Int32) (i : Nat) : bt (x ^^^ y) i = (bt x i ^^ bt y i) := by unfold bt; rw [Int32.toBitVec_xor, BitVec.getLsbD_xor]
theorem b_big {x : Int32} {i : Nat} (h : 32 ≤ i) : bt x i = false := BitVec.getLsbD_of_ge _ _ h
theorem b_m1 : ∀ i, i < 32 → bt (-1) i = true := by decide +kernel
theorem b_0 (i : Nat) : bt 0 i = false := BitVec.getLsbD_zero
theorem s_l : ∀ n, n < 32 → ((nI n &&& 31).toBitVec.smod 32).toNat = n := by decide +kernel
theorem s_u : ∀ n, n < 32 → (((nI n).toUInt32 &&& Int32.toUInt32 31).toBitVec % 32).toNat = n := by decide +kernel
theorem b_shl (n : Nat) (hn : n < 32) (x : Int32) {i : Nat} (hi : i < 32) : bt (x <<< (nI n &&& 31)) i = (decide (n ≤ i) && bt x (i - n)) := by
  unfold bt
  rw [Int32.toBitVec_shiftLeft]
  show (x.toBitVec <<< ((nI n &&& 31).toBitVec.smod 32).toNat).getLsbD i = _
  rw [s_l n hn, BitVec.getLsbD_shiftLeft]
  rcases Nat.lt_or_ge i n with h | h
  · simp [h, Nat.not_le.mpr h]
  · simp [hi, h, Nat.not_lt.mpr h]
theorem b_ushr (n : Nat) (hn : n < 32) (x : Int32) (i : Nat) : bt ((x.toUInt32 >>> ((nI n).toUInt32 &&& Int32.toUInt32 31)).toInt32) i = bt x (n + i) := by
  show (x.toUInt32 >>> ((nI n).toUInt32 &&& Int32.toUInt32 31)).toBitVec.getLsbD i = x.toUInt32.toBitVec.getLsbD (n + i)
  rw [UInt32.toBitVec_shiftRight]
  show (x.toUInt32.toBitVec >>> (((nI n).toUInt32 &&& Int32.toUInt32 31).toBitVec % 32).toNat).getLsbD i = _
  rw [s_u n hn, BitVec.getLsbD_ushiftRight]
theorem b_one : ∀ k, k < 32 → bt 1 k = decide (k = 0) := by decide +kernel
/-- an array of words holds the set X of codes -/
def bmr (f : Nat → Int32) (X : Nat → Bool) : Prop := ∀ c, c < 16832 → bt (f (c / 32)) (c % 32) = X c
theorem bt_bI (b : Bool) : ∀ k, k < 32 → bt (bI b) k = (b && decide (k = 0)) := by
  cases b with
  | true =>
    intro k hk
    rw [bI_1, b_one k hk]
    rfl
  | false =>
    intro k hk
    rw [bI_0, b_0]
    rfl
theorem and_one (x : Int32) : x &&& 1 = bI (bt x 0) := by
  refine b_ext (fun i hi => ?_)
  rw [b_and, b_one i hi, bt_bI _ i hi]
  by_cases h : i = 0
  · subst h
    rfl
  · rw [decide_eq_false h, Bool.and_false, Bool.and_false]
theorem bm_test {f : Nat → Int32} {X : Nat → Bool} {a b : Nat} (h : bmr f X) (ha : a < 526) (hb : b < 32) : (((f a).toUInt32 >>> ((nI b).toUInt32 &&& Int32.toUInt32 31)).toInt32 &&& 1) = bI (X (32 * a + b)) := by
  rw [and_one, b_ushr b hb, Nat.add_zero, ← h (32 * a + b) (by omega)]
  rw [show (32 * a + b) / 32 = a by omega, show (32 * a + b) % 32 = b by omega]
theorem bm_set {f : Nat → Int32} {X : Nat → Bool} {m : Nat} (h : bmr f X) (hm : m < 16832) : bmr (upd f (m / 32) (f (m / 32) ||| ((1 : Int32) <<< (nI (m % 32) &&& 31)))) (fun x => X x || decide (x = m)) := by
  intro c hc
  show bt (upd f (m / 32) (f (m / 32) ||| ((1 : Int32) <<< (nI (m % 32) &&& 31))) (c / 32)) (c % 32) = (X c || decide (c = m))
  by_cases e : c / 32 = m / 32
  · have h1 := h c hc
    rw [e] at h1
    rw [e, pk_us, b_or, h1, b_shl (m % 32) (by omega) 1 (by omega), b_one _ (by omega), ← Bool.decide_and]
    congr 1
    exact decide_eq_decide.mpr (by omega)
  · rw [pk_un e, h c hc, decide_eq_false (show ¬ c = m by omega), Bool.or_false]
theorem bm_clr {f : Nat → Int32} {X : Nat → Bool} {a b : Nat} (h : bmr f X) (ha : a < 526) (hb : b < 32) : bmr (upd f a (f a &&& (((1 : Int32) <<< (nI b &&& 31)) ^^^ (-1)))) (fun x => X x && !decide (x = 32 * a + b)) := by
  intro c hc
  show bt (upd f a (f a &&& (((1 : Int32) <<< (nI b &&& 31)) ^^^ (-1))) (c / 32)) (c % 32) = (X c && !decide (c = 32 * a + b))
  by_cases e : c / 32 = a
  · have h1 := h c hc
    rw [e] at h1
    rw [e, pk_us, b_and, h1, b_xor, b_m1 _ (by omega), b_shl b hb 1 (by omega), b_one _ (by omega), ← Bool.decide_and, Bool.xor_true]
    congr 2
    exact decide_eq_decide.mpr (by omega)
  · rw [pk_un e, h c hc, decide_eq_false (show ¬ c = 32 * a + b by omega)]
    simp
theorem bm_zero {f : Nat → Int32} (h : ∀ k, k < 526 → f k = 0) : bmr f (fun _ => false) := by
  intro c hc
  rw [h _ (by omega), b_0]
theorem bm_word {f : Nat → Int32} {X : Nat → Bool} {a : Nat} (h : bmr f X) (h0 : f a = 0) {c : Nat} (hc : c < 16832) (hw : c / 32 = a) : X c = false := by
  rw [← h c hc, hw, h0, b_0]
theorem bm_copy {f f' : Nat → Int32} {X : Nat → Bool} (h : bmr f X) (e : ∀ k, k < 526 → f' k = f k) : bmr f' X := by
  intro c hc
  rw [e _ (by omega), h c hc]
theorem bm_congr {f : Nat → Int32} {X Y : Nat → Bool} (h : bmr f X) (e : ∀ c, c < 16832 → X c = Y c) : bmr f Y := by
  intro c hc
  rw [h c hc, e c hc]
theorem nI_and31 {n : Nat} (h : n < 2147483648) : nI n &&& 31 = nI (n % 32) := pk_andN (by omega) 5 (by decide)
theorem nI_shr5 {n : Nat} (h : n < 2147483648) : nI n >>> ((5 : Int32) &&& 31) = nI (n / 32) := pk_shrN (by omega) _ 5 (by decide)
section XB1
variable {p : Program} {l : Launch} {e : Env} {R : Room} {s : State} {m : MethodId} {args : Array Value} {below : List Frame} {meth : Method} {c : Code} {H : Heap} {locs : List Loc} {cells slots : Nat} {Q : State → Prop}
variable {pc : Nat} {ls : Array Slot} {rest : List Value} {cc : ByteArray}
/-- a truth value against 1 -/
theorem b1_ne (hexec : p.tables.exec = Jvm.exec) (hb : c.code = cc) {b : Bool} {off : Int} {tgt : Nat} (hdg : decode cc pc = .ok (.if_icmp .ne off, 3)) (ht : (pc : Int) + off = (tgt : Int))
    (k1 : b = false → W p l e R s m args below meth c H locs cells slots Q (F0 m tgt ls rest)) (k2 : b = true → W p l e R s m args below meth c H locs cells slots Q (F0 m (pc + 3) ls rest)) : W p l e R s m args below meth c H locs cells slots Q (F0 m pc ls (.int 1 :: .int (bI b) :: rest)) := by
  cases b with
  | true => exact lv_icmp_ne hexec hb hdg ht (fun h => absurd rfl h) (fun _ => k2 rfl)
  | false => exact lv_icmp_ne hexec hb hdg ht (fun _ => k1 rfl) (fun h => absurd h (by decide))
end XB1
/-! gather's state behind the codes below n -/
def cbm (w : Nat → Int) (N : Nat → Bool) (n : Nat) : Nat → Bool := fun c => if c < n then gn w N c else N c
theorem cbm_0 (w : Nat → Int) (N : Nat → Bool) : cbm w N 0 = N := by
  funext c
  exact if_neg (Nat.not_lt_zero _)
theorem cbm_same {w : Nat → Int} {N : Nat → Bool} {n : Nat} (h : N n = false ∨ ¬ sm w n = 0) : cbm w N (n + 1) = cbm w N n := by
  funext c
  unfold cbm
  rcases Nat.lt_trichotomy c n with q | q | q
  · rw [if_pos q, if_pos (by omega)]
  · subst q
    rw [if_pos (by omega), if_neg (by omega)]
    unfold gn
    rcases h with h | h
    · rw [h]
      rfl
    · rw [decide_eq_false h]
      simp
  · rw [if_neg (by omega), if_neg (by omega)]
theorem cbm_off {w : Nat → Int} {N : Nat → Bool} {n : Nat} (h : sm w n = 0) : cbm w N (n + 1) = fun x => cbm w N n x && !decide (x = n) := by
  funext c
  unfold cbm
  rcases Nat.lt_trichotomy c n with q | q | q
  · rw [if_pos q, if_pos (by omega), decide_eq_false (by omega)]
    simp
  · subst q
    rw [if_pos (by omega), if_neg (by omega), decide_eq_true rfl]
    unfold gn
    rw [decide_eq_true h]
  · rw [if_neg (by omega), if_neg (by omega), decide_eq_false (by omega)]
    simp
theorem cbm_skip {w : Nat → Int} {N : Nat → Bool} {n : Nat} : ∀ k, (∀ c, n ≤ c → c < n + k → N c = false) → cbm w N (n + k) = cbm w N n
  | 0, _ => rfl
  | k + 1, h => by
    rw [← Nat.add_assoc, cbm_same (Or.inl (h (n + k) (by omega) (by omega)))]
    exact cbm_skip k (fun c h1 h2 => h c h1 (by omega))
theorem gf_same {w : Nat → Int} {N : Nat → Bool} {L : List Nat} {n : Nat} (h : ¬ (N n = true ∧ sm w n = 0 ∧ hp (gf w N L n) n = false ∧ (gf w N L n).length < 400)) : gf w N L (n + 1) = gf w N L n := if_neg h
theorem gf_more {w : Nat → Int} {N : Nat → Bool} {L : List Nat} {n : Nat} (h : N n = true ∧ sm w n = 0 ∧ hp (gf w N L n) n = false ∧ (gf w N L n).length < 400) : gf w N L (n + 1) = gf w N L n ++ [n] := if_pos h
theorem gf_skip {w : Nat → Int} {N : Nat → Bool} {L : List Nat} {n : Nat} : ∀ k, (∀ c, n ≤ c → c < n + k → N c = false) → gf w N L (n + k) = gf w N L n
  | 0, _ => rfl
  | k + 1, h => by
    rw [← Nat.add_assoc, gf_same (fun q => by rw [h (n + k) (by omega) (by omega)] at q; cases q.1)]
    exact gf_skip k (fun c h1 h2 => h c h1 (by omega))
theorem gf_len {w : Nat → Int} {N : Nat → Bool} {L : List Nat} (h : L.length ≤ 400) : ∀ n, (gf w N L n).length ≤ 400
  | 0 => h
  | n + 1 => by
    have ih := gf_len (w := w) (N := N) h n
    by_cases q : N n = true ∧ sm w n = 0 ∧ hp (gf w N L n) n = false ∧ (gf w N L n).length < 400
    · rw [gf_more q, List.length_append, List.length_singleton]
      omega
    · rw [gf_same q]
      exact ih
theorem gf_mem {w : Nat → Int} {N : Nat → Bool} {L : List Nat} (h : ∀ a, a ∈ L → a < 16807) (hN : ∀ c, N c = true → c < 16807) : ∀ n a, a ∈ gf w N L n → a < 16807
  | 0, a, ha => h a ha
  | n + 1, a, ha => by
    by_cases q : N n = true ∧ sm w n = 0 ∧ hp (gf w N L n) n = false ∧ (gf w N L n).length < 400
    · rw [gf_more q, List.mem_append, List.mem_singleton] at ha
      rcases ha with r | r
      · exact gf_mem h hN n a r
      · rw [r]
        exact hN n q.1
    · rw [gf_same q] at ha
      exact gf_mem h hN n a ha
/-! arrays that hold lists -/
theorem hli_get {f : Nat → Int32} {A R : List Nat} {x : Nat} (h : hli f (A ++ x :: R)) : f A.length = nI x := by
  have := h A.length (by simp)
  rw [this]
  simp [List.getD_eq_getElem?_getD]
theorem hli_set {f : Nat → Int32} {A R : List Nat} {x : Nat} (y : Nat) (h : hli f (A ++ x :: R)) : hli (upd f A.length (nI y)) (A ++ y :: R) := by
  intro k hk
  have hk' : k < (A ++ x :: R).length := by
    simp at hk ⊢
    exact hk
  by_cases e : k = A.length
  · subst e
    rw [pk_us]
    simp [List.getD_eq_getElem?_getD]
  · rw [pk_un e, h k hk']
    congr 1
    rw [List.getD_eq_getElem?_getD, List.getD_eq_getElem?_getD]
    rcases Nat.lt_or_ge k A.length with q | q
    · rw [List.getElem?_append_left q, List.getElem?_append_left q]
    · rw [List.getElem?_append_right q, List.getElem?_append_right q]
      obtain ⟨j, hj⟩ : ∃ j, k - A.length = j + 1 := ⟨k - A.length - 1, by omega⟩
      rw [hj, List.getElem?_cons_succ, List.getElem?_cons_succ]
theorem hli_push {f : Nat → Int32} {L : List Nat} (y : Nat) (h : hli f L) : hli (upd f L.length (nI y)) (L ++ [y]) := by
  intro k hk
  rw [List.length_append, List.length_singleton] at hk
  by_cases e : k = L.length
  · subst e
    rw [pk_us]
    simp [List.getD_eq_getElem?_getD]
  · have q : k < L.length := by omega
    rw [pk_un e, h k q]
    congr 1
    rw [List.getD_eq_getElem?_getD, List.getD_eq_getElem?_getD, List.getElem?_append_left q]
theorem sort_ins {A B C : List Nat} {v : Nat} (hs : (A ++ B).Pairwise (· ≤ ·)) (hA : ∀ a, a ∈ A → a ≤ v) (hB : ∀ b, b ∈ B → v ≤ b) : (A ++ v :: B).Pairwise (· ≤ ·) ∧ ((A ++ v :: B) ++ C).Perm ((A ++ B) ++ v :: C) := by
  constructor
  · rw [List.pairwise_append] at hs ⊢
    obtain ⟨h1, h2, h3⟩ := hs
    refine ⟨h1, List.pairwise_cons.mpr ⟨hB, h2⟩, fun a ha b hb => ?_⟩
    rcases List.mem_cons.mp hb with q | q
    · rw [q]
      exact hA a ha
    · exact h3 a ha b q
  · have e1 : ((A ++ v :: B) ++ C).Perm (v :: ((A ++ B) ++ C)) := by
      have : (A ++ v :: B).Perm (v :: (A ++ B)) := List.perm_middle
      exact this.append_right C
    exact e1.trans List.perm_middle.symm
theorem sort_last {A B : List Nat} {y : Nat} (hs : ((A ++ [y]) ++ B).Pairwise (· ≤ ·)) : ∀ a, a ∈ A ++ [y] → a ≤ y := by
  intro a ha
  rw [List.pairwise_append] at hs
  have h1 := hs.1
  rw [List.pairwise_append] at h1
  rcases List.mem_append.mp ha with q | q
  · exact h1.2.2 a q y (List.mem_singleton.mpr rfl)
  · rw [List.mem_singleton] at q
    omega
end
section
/-! growRow, grow, gather -/
theorem gra_no {w : Nat → Int} {L : List Nat} {c i : Nat} {X : Nat → Bool} (h : ¬ grb w L c i = true) : gra w L c X (i + 1) = gra w L c X i := if_neg h
theorem gra_yes {w : Nat → Int} {L : List Nat} {c i : Nat} {X : Nat → Bool} (h : grb w L c i = true) : gra w L c X (i + 1) = fun x => gra w L c X i x || decide (x = c + pw i) := if_pos h
theorem gro_no {w : Nat → Int} {L : List Nat} {c : Nat} {N : Nat → Bool} (h : N c = false) : gro w L N (c + 1) = gro w L N c := if_neg (by rw [h]; decide)
theorem gro_yes {w : Nat → Int} {L : List Nat} {c : Nat} {N : Nat → Bool} (h : N c = true) : gro w L N (c + 1) = gra w L c (gro w L N c) 5 := if_pos h
theorem grb_iff {w : Nat → Int} {L : List Nat} {c i : Nat} : grb w L c i = true ↔ nearer (sm w c) (w i) = true ∧ dg c i < 6 ∧ hp L (c + pw i) = false := by
  unfold grb
  simp only [Bool.and_eq_true, decide_eq_true_eq, Bool.not_eq_true', and_assoc]
theorem upd_0 {f : Nat → Int32} {j : Nat} (h : ∀ k, k < j → f k = 0) (k : Nat) (hk : k < j + 1) : upd f j 0 k = 0 := by
  by_cases e : k = j
  · subst e
    exact pk_us
  · rw [pk_un e]
    exact h k (by omega)
abbrev rX0_growRow : Room := { frames := 3, cells := 0, slots := 0, locals := 68 }
set_option maxHeartbeats 4000000 in
set_option maxRecDepth 100000 in
theorem metX0_growRow {l : Launch} {D : va_G} {d : ClassId} {g : Nat → Nat} {fw fn fx fl fp ft fk fr : Nat → Int32} {cnt cur : Int32} {hz : Nat} {c : Nat} {w : Nat → Int} {L : List Nat} {X : Nat → Bool} (hq : okp fp) (hw : hww fw w) (ho : okw w) (hL : hli fl L) (hn : cnt = nI L.length) (hlen : L.length ≤ 400) (hm : ∀ a, a ∈ L → a < 16807) (hc0 : c < 16807) (hX : bmr fx X) : mVO l yX0_growRow cX0_growRow 6 rX0_growRow [.ref (g 0), .int (nI c)] D d (wB g d fw fn fx fl fp ft fk fr cnt cur) hz (S := Nat → Int32) (fun u => bmr u (gra w L c X 5)) (fun u => wB g d fw fn u fl fp ft fk fr cnt cur) := by
  refine mVO.ofW (by decide) (Nat.le_of_ble_eq_true rfl) ?_
  intro p e s m args below meth mc Q A ls S hP hK hA hS hl hD ret
  have S : CallFix p m mc cX0_growRow 6 s args lw_all RX0 := S
  have hx := S.1
  have hb := S.2.1
  have hown := S.2.2.2.1
  have hts := S.2.2.2.2
  have hl : lv_has ls 6 [(0, .ref (g 0)), (1, .int (nI c))] := hl
  subst hn
  have hbd := sm_bound ho c
  refine lv_aload_n hx hb dX0_growRow_0 rfl (lv_at hl 0 rfl) ?_
  refine lv_iload_n hx hb dX0_growRow_1 rfl (lv_at hl 1 rfl) ?_
  refine cRO (As := [.int (nI c)]) (rest := []) S (metX0_sumOf (c := c) (w := w) hq hw (by omega)) (cwV 1 hts (lw_V q89 q91 qs0 q25 q92) rfl rfl rfl (by decide +kernel) ⟨Nat.le_of_ble_eq_true rfl, Nat.le_of_ble_eq_true rfl⟩) hK hP hS hA rfl rfl rfl hl.1 rfl (Nat.le_of_ble_eq_true rfl) dX0_growRow_2 ⟨Nat.zero_le _, Nat.zero_le _⟩ (fun r9 H locs hr hP hS => ?_)
  obtain rfl : r9 = iI (sm w c) := hr
  refine lv_istore_n (lv' := [(2, .int (iI (sm w c))), (0, .ref (g 0)), (1, .int (nI c))]) hx hb dX0_growRow_5 rfl hl (by decide) rfl (fun ls hl => ?_)
  refine lv_iconst (v := 0) hx hb dX0_growRow_6 (by decide) ?_
  refine lv_istore_n (lv' := [(3, .int 0), (2, .int (iI (sm w c))), (0, .ref (g 0)), (1, .int (nI c))]) hx hb dX0_growRow_7 rfl hl (by decide) rfl (fun ls hl => ?_)
  have lp : ∀ (k : Nat) (i : Nat) (tx : Nat → Int32) (H : Heap) (locs : List Loc) (ls : Array Slot), 5 - i < k → i ≤ 5 → bmr tx (gra w L c X i) → va_P D vwCl (wB g d fw fn tx fl fp ft fk fr (nI L.length) cur) H → va_D A (wB g d fw fn tx fl fp ft fk fr (nI L.length) cur) → va_S A s.heap H locs → lv_has ls 6 [(0, .ref (g 0)), (1, .int (nI c)), (2, .int (iI (sm w c))), (3, .int (nI i))] → W p l e rX0_growRow s m args below meth mc H locs 0 0 Q (F0 m 8 ls []) := by
    intro k
    induction k with
    | zero =>
      intro i tx H locs ls hk
      exact absurd hk (Nat.not_lt_zero _)
    | succ k ih =>
      intro i tx H locs ls hk hi hX1 hP hD hS hl
      refine lv_iload_n hx hb dX0_growRow_8 rfl (lv_at hl 3 rfl) ?_
      refine lv_iconst (v := 5) hx hb dX0_growRow_9 (by decide) ?_
      refine z_ge (X := ((i : Nat) : Int)) (Y := 5) (tgt := 117) hx hb dX0_growRow_10 (by decide) (nI_toInt (by omega)) (by decide) (fun hc => ?_) (fun hc => ?_)
      · exact ret (tx) _ _ _ _ dX0_growRow_117 (by obtain rfl : i = 5 := (by omega); exact hX1) hP hD hS
      · have hi2 : i < 5 := by omega
        have hwi := ho i hi2
        have hpw := pw_pos i
        have jn : ∀ (ty : Nat → Int32) (H : Heap) (locs : List Loc) (ls : Array Slot), (bmr ty (gra w L c X (i + 1))) → va_P D vwCl (wB g d fw fn ty fl fp ft fk fr (nI L.length) cur) H → va_D A (wB g d fw fn ty fl fp ft fk fr (nI L.length) cur) → va_S A s.heap H locs → lv_has ls 6 [(0, .ref (g 0)), (1, .int (nI c)), (2, .int (iI (sm w c))), (3, .int (nI i))] → W p l e rX0_growRow s m args below meth mc H locs 0 0 Q (F0 m 111 ls []) := by
          intro ty H locs ls hY hP hD hS hl
          refine lv_iinc (v := nI (i + 1)) (lv' := [(3, .int (nI (i + 1))), (0, .ref (g 0)), (1, .int (nI c)), (2, .int (iI (sm w c)))]) hx hb dX0_growRow_111 hl (k := 3) rfl (nI_1 _) (by decide) rfl (fun ls hl => ?_)
          refine lv_goto (tgt := 8) hx hb dX0_growRow_114 (by decide) ?_
          exact ih (i + 1) ty _ _ _ (by omega) (by omega) hY hP hD hS (lv_sub hl [1, 2, 3, 0] rfl)
        have no : ¬ grb w L c i = true → bmr tx (gra w L c X (i + 1)) := fun q => by rw [gra_no q]; exact hX1
        have jm : ∀  (H : Heap) (locs : List Loc) (ls : Array Slot), va_P D vwCl (wB g d fw fn tx fl fp ft fk fr (nI L.length) cur) H → va_D A (wB g d fw fn tx fl fp ft fk fr (nI L.length) cur) → va_S A s.heap H locs → lv_has ls 6 [(0, .ref (g 0)), (1, .int (nI c)), (2, .int (iI (sm w c))), (3, .int (nI i))] → W p l e rX0_growRow s m args below meth mc H locs 0 0 Q (F0 m 48 ls [.int (bI (nearer (sm w c) (w i)))]) := by
          intro  H locs ls  hP hD hS hl
          refine lv_istore (lv' := [(4, .int (bI (nearer (sm w c) (w i)))), (0, .ref (g 0)), (1, .int (nI c)), (2, .int (iI (sm w c))), (3, .int (nI i))]) hx hb dX0_growRow_48 hl (by decide) rfl (fun ls hl => ?_)
          refine lv_iload hx hb dX0_growRow_50 (lv_at hl 0 rfl) ?_
          refine b_eq (b := nearer (sm w c) (w i)) (tgt := 111) hx hb dX0_growRow_52 (by decide) (fun hc => ?_) (fun hc => ?_)
          · exact jn tx _ _ _ (no (fun q => by rw [(grb_iff.mp q).1] at hc; cases hc)) hP hD hS (lv_sub hl [1, 2, 3, 4] rfl)
          · have hnr := hc
            refine lv_aload_n hx hb dX0_growRow_55 rfl (lv_at hl 1 rfl) ?_
            refine lv_iload_n hx hb dX0_growRow_56 rfl (lv_at hl 2 rfl) ?_
            refine lv_iload_n hx hb dX0_growRow_57 rfl (lv_at hl 4 rfl) ?_
            refine cRO (As := [.int (nI c), .int (nI i)]) (rest := []) S (metX0_digit (c := c) (i := i) hq (by omega) hi2) (cwV 2 hts (lw_V q93 q95 qs1 q25 q96) rfl rfl rfl (by decide +kernel) ⟨Nat.le_of_ble_eq_true rfl, Nat.le_of_ble_eq_true rfl⟩) hK hP hS hA rfl rfl rfl hl.1 rfl (Nat.le_of_ble_eq_true rfl) dX0_growRow_58 ⟨Nat.zero_le _, Nat.zero_le _⟩ (fun r9 H locs hr hP hS => ?_)
            obtain rfl : r9 = nI (dg c i) := hr
            refine lv_bipush (v := 6) hx hb dX0_growRow_61 (by decide) ?_
            have hdl := dg_lt c i
            refine z_ge (X := ((dg c i : Nat) : Int)) (Y := 6) (tgt := 111) hx hb dX0_growRow_63 (by decide) (nI_toInt (by omega)) (by decide) (fun hc => ?_) (fun hc => ?_)
            · exact jn tx _ _ _ (no (fun q => by have := (grb_iff.mp q).2.1; omega)) hP hD hS (lv_sub hl [1, 2, 3, 4] rfl)
            · have hd6 : dg c i < 6 := by omega
              have hmo := (add1 hc0 hi2 hd6).1
              refine lv_iload_n hx hb dX0_growRow_66 rfl (lv_at hl 2 rfl) ?_
              refine lv_aload_n hx hb dX0_growRow_67 rfl (lv_at hl 1 rfl) ?_
              refine va_get (D := D) (ci := 0) (v := .ref (g 5)) (C := RX0) (T := TX0) (N := 10) hx hb hts in_X0 hown hK hP 0 rfl rfl 4 (by decide) (hts _ q39) (fun _ h9 => h9) rfl dX0_growRow_68 ?_
              refine lv_iload_n hx hb dX0_growRow_71 rfl (lv_at hl 4 rfl) ?_
              refine xald hx hb hK hP 5 0 rfl rfl (i) (rfl) (hi2) (by decide) dX0_growRow_72 ?_
              refine tpi (y := nI (pw i)) (hq i hi2) ?_
              refine lv_iadd hx hb dX0_growRow_73 ?_
              refine tpi (y := nI (c + pw i)) (nI_add _ _) ?_
              refine lv_istore (lv' := [(5, .int (nI (c + pw i))), (4, .int (bI (nearer (sm w c) (w i)))), (0, .ref (g 0)), (1, .int (nI c)), (2, .int (iI (sm w c))), (3, .int (nI i))]) hx hb dX0_growRow_74 hl (by decide) rfl (fun ls hl => ?_)
              refine lv_aload_n hx hb dX0_growRow_76 rfl (lv_at hl 2 rfl) ?_
              refine lv_iload hx hb dX0_growRow_77 (lv_at hl 0 rfl) ?_
              refine cRO (As := [.int (nI (c + pw i))]) (rest := []) S (metX0_hasPart (c := c + pw i) (L := L) hq hL rfl hlen hm (by omega)) (cwV 1 hts (lw_V q109 q111 qs4 q25 q112) rfl rfl rfl (by decide +kernel) ⟨Nat.le_of_ble_eq_true rfl, Nat.le_of_ble_eq_true rfl⟩) hK hP hS hA rfl rfl rfl hl.1 rfl (Nat.le_of_ble_eq_true rfl) dX0_growRow_79 ⟨Nat.zero_le _, Nat.zero_le _⟩ (fun r9 H locs hr hP hS => ?_)
              obtain rfl : r9 = bI (hp L (c + pw i)) := hr
              refine b_ne (b := hp L (c + pw i)) (tgt := 111) hx hb dX0_growRow_82 (by decide) (fun hc => ?_) (fun hc => ?_)
              · exact jn tx _ _ _ (no (fun q => by rw [(grb_iff.mp q).2.2] at hc; cases hc)) hP hD hS (lv_sub hl [2, 3, 4, 5] rfl)
              · refine lv_aload_n hx hb dX0_growRow_85 rfl (lv_at hl 2 rfl) ?_
                refine va_get (D := D) (ci := 0) (v := .ref (g 3)) (C := RX0) (T := TX0) (N := 10) hx hb hts in_X0 hown hK hP 0 rfl rfl 2 (by decide) (hts _ q37) (fun _ h9 => h9) rfl dX0_growRow_86 ?_
                refine lv_iload hx hb dX0_growRow_89 (lv_at hl 0 rfl) ?_
                refine lv_iconst (v := 5) hx hb dX0_growRow_91 (by decide) ?_
                refine lv_ishr hx hb dX0_growRow_92 ?_
                refine tpi (y := nI ((c + pw i) / 32)) (nI_shr5 (by omega)) ?_
                refine lv_aload_n hx hb dX0_growRow_93 rfl (lv_at hl 2 rfl) ?_
                refine va_get (D := D) (ci := 0) (v := .ref (g 3)) (C := RX0) (T := TX0) (N := 10) hx hb hts in_X0 hown hK hP 0 rfl rfl 2 (by decide) (hts _ q37) (fun _ h9 => h9) rfl dX0_growRow_94 ?_
                refine lv_iload hx hb dX0_growRow_97 (lv_at hl 0 rfl) ?_
                refine lv_iconst (v := 5) hx hb dX0_growRow_99 (by decide) ?_
                refine lv_ishr hx hb dX0_growRow_100 ?_
                refine tpi (y := nI ((c + pw i) / 32)) (nI_shr5 (by omega)) ?_
                refine xald hx hb hK hP 3 0 rfl rfl ((c + pw i) / 32) (rfl) (by omega) (by decide) dX0_growRow_101 ?_
                refine lv_iconst (v := 1) hx hb dX0_growRow_102 (by decide) ?_
                refine lv_iload hx hb dX0_growRow_103 (lv_at hl 0 rfl) ?_
                refine lv_bipush (v := 31) hx hb dX0_growRow_105 (by decide) ?_
                refine lv_iand hx hb dX0_growRow_107 ?_
                refine tpi (y := nI ((c + pw i) % 32)) (nI_and31 (by omega)) ?_
                refine lv_ishl hx hb dX0_growRow_108 ?_
                refine lv_ior hx hb dX0_growRow_109 ?_
                refine tpi (y := tx ((c + pw i) / 32) ||| ((1 : Int32) <<< (nI ((c + pw i) % 32) &&& 31))) (rfl) ?_
                refine xast (x := tx ((c + pw i) / 32) ||| ((1 : Int32) <<< (nI ((c + pw i) % 32) &&& 31))) hx hb hK hP hD hS 3 0 rfl rfl ((c + pw i) / 32) (rfl) (by omega) (by decide) dX0_growRow_110 (fun H locs hP hD hS => ?_)
                have hP : va_P D vwCl (wB g d fw fn (upd tx ((c + pw i) / 32) (tx ((c + pw i) / 32) ||| ((1 : Int32) <<< (nI ((c + pw i) % 32) &&& 31)))) fl fp ft fk fr (nI L.length) cur) H := hP
                have hD : va_D A (wB g d fw fn (upd tx ((c + pw i) / 32) (tx ((c + pw i) / 32) ||| ((1 : Int32) <<< (nI ((c + pw i) % 32) &&& 31)))) fl fp ft fk fr (nI L.length) cur) := hD
                exact jn (upd tx ((c + pw i) / 32) (tx ((c + pw i) / 32) ||| ((1 : Int32) <<< (nI ((c + pw i) % 32) &&& 31)))) _ _ _ (by rw [gra_yes (grb_iff.mpr ⟨hnr, hd6, hc⟩)]; exact bm_set hX1 (by omega)) hP hD hS (lv_sub hl [2, 3, 4, 5] rfl)
        refine lv_iload_n hx hb dX0_growRow_13 rfl (lv_at hl 2 rfl) ?_
        refine z0_le (X := (sm w c)) (tgt := 34) hx hb dX0_growRow_14 (by decide) (iI_toInt (by omega) (by omega)) (fun hc => ?_) (fun hc => ?_)
        · refine lv_aload_n hx hb dX0_growRow_34 rfl (lv_at hl 0 rfl) ?_
          refine va_get (D := D) (ci := 0) (v := .ref (g 1)) (C := RX0) (T := TX0) (N := 10) hx hb hts in_X0 hown hK hP 0 rfl rfl 0 (by decide) (hts _ q35) (fun _ h9 => h9) rfl dX0_growRow_35 ?_
          refine lv_iload_n hx hb dX0_growRow_38 rfl (lv_at hl 3 rfl) ?_
          refine xald hx hb hK hP 1 0 rfl rfl (i) (rfl) (hi2) (by decide) dX0_growRow_39 ?_
          refine tpi (y := iI (w i)) (hw i hi2) ?_
          refine z0_le (X := (w i)) (tgt := 47) hx hb dX0_growRow_40 (by decide) (iI_toInt (by omega) (by omega)) (fun hc2 => ?_) (fun hc2 => ?_)
          · refine lv_iconst (v := 0) hx hb dX0_growRow_47 (by decide) ?_
            refine tpi (y := bI (nearer (sm w c) (w i))) (by unfold nearer; rw [if_neg (by omega)]; exact bI_f (by omega)) ?_
            exact jm  _ _ _  hP hD hS (lv_sub hl [0, 1, 2, 3] rfl)
          · refine lv_iconst (v := 1) hx hb dX0_growRow_43 (by decide) ?_
            refine lv_goto (tgt := 48) hx hb dX0_growRow_44 (by decide) ?_
            refine tpi (y := bI (nearer (sm w c) (w i))) (by unfold nearer; rw [if_neg (by omega)]; exact bI_t (by omega)) ?_
            exact jm  _ _ _  hP hD hS (lv_sub hl [0, 1, 2, 3] rfl)
        · refine lv_aload_n hx hb dX0_growRow_17 rfl (lv_at hl 0 rfl) ?_
          refine va_get (D := D) (ci := 0) (v := .ref (g 1)) (C := RX0) (T := TX0) (N := 10) hx hb hts in_X0 hown hK hP 0 rfl rfl 0 (by decide) (hts _ q35) (fun _ h9 => h9) rfl dX0_growRow_18 ?_
          refine lv_iload_n hx hb dX0_growRow_21 rfl (lv_at hl 3 rfl) ?_
          refine xald hx hb hK hP 1 0 rfl rfl (i) (rfl) (hi2) (by decide) dX0_growRow_22 ?_
          refine tpi (y := iI (w i)) (hw i hi2) ?_
          refine z0_ge (X := (w i)) (tgt := 30) hx hb dX0_growRow_23 (by decide) (iI_toInt (by omega) (by omega)) (fun hc2 => ?_) (fun hc2 => ?_)
          · refine lv_iconst (v := 0) hx hb dX0_growRow_30 (by decide) ?_
            refine lv_goto (tgt := 48) hx hb dX0_growRow_31 (by decide) ?_
            refine tpi (y := bI (nearer (sm w c) (w i))) (by unfold nearer; rw [if_pos (by omega)]; exact bI_f (by omega)) ?_
            exact jm  _ _ _  hP hD hS (lv_sub hl [0, 1, 2, 3] rfl)
          · refine lv_iconst (v := 1) hx hb dX0_growRow_26 (by decide) ?_
            refine lv_goto (tgt := 48) hx hb dX0_growRow_27 (by decide) ?_
            refine tpi (y := bI (nearer (sm w c) (w i))) (by unfold nearer; rw [if_pos (by omega)]; exact bI_t (by omega)) ?_
            exact jm  _ _ _  hP hD hS (lv_sub hl [0, 1, 2, 3] rfl)
  exact lp _ 0 fx _ _ _ (Nat.lt_succ_self _) (by omega) hX hP hD hS (lv_sub hl [2, 3, 1, 0] rfl)
abbrev rX0_grow : Room := { frames := 4, cells := 0, slots := 0, locals := 93 }
set_option maxHeartbeats 4000000 in
set_option maxRecDepth 100000 in
theorem metX0_grow {l : Launch} {D : va_G} {d : ClassId} {g : Nat → Nat} {fw fn fx fl fp ft fk fr : Nat → Int32} {cnt cur : Int32} {hz : Nat} {w : Nat → Int} {L : List Nat} {N : Nat → Bool} (hq : okp fp) (hw : hww fw w) (ho : okw w) (hL : hli fl L) (hn : cnt = nI L.length) (hlen : L.length ≤ 400) (hm : ∀ a, a ∈ L → a < 16807) (hN : bmr fn N) : mVO l yX0_grow cX0_grow 2 rX0_grow [.ref (g 0)] D d (wB g d fw fn fx fl fp ft fk fr cnt cur) hz (S := Nat → Int32) (fun u => bmr u (gro w L N 16807)) (fun u => wB g d fw fn u fl fp ft fk fr cnt cur) := by
  refine mVO.ofW (by decide) (Nat.le_of_ble_eq_true rfl) ?_
  intro p e s m args below meth mc Q A ls S hP hK hA hS hl hD ret
  have S : CallFix p m mc cX0_grow 2 s args lw_all RX0 := S
  have hx := S.1
  have hb := S.2.1
  have hown := S.2.2.2.1
  have hts := S.2.2.2.2
  have hl : lv_has ls 2 [(0, .ref (g 0))] := hl
  subst hn
  have lp2 : ∀ (k : Nat) (c : Nat) (tx : Nat → Int32) (H : Heap) (locs : List Loc) (ls : Array Slot), 16807 - c < k → c ≤ 16807 → bmr tx (gro w L N c) → va_P D vwCl (wB g d fw fn tx fl fp ft fk fr (nI L.length) cur) H → va_D A (wB g d fw fn tx fl fp ft fk fr (nI L.length) cur) → va_S A s.heap H locs → lv_has ls 2 [(0, .ref (g 0)), (1, .int (nI c))] → W p l e rX0_grow s m args below meth mc H locs 0 0 Q (F0 m 24 ls []) := by
    intro k
    induction k with
    | zero =>
      intro c tx H locs ls hk
      exact absurd hk (Nat.not_lt_zero _)
    | succ k ih =>
      intro c tx H locs ls hk hc0 hX hP hD hS hl
      refine lv_iload_n hx hb dX0_grow_24 rfl (lv_at hl 1 rfl) ?_
      refine lv_sipush (v := 16807) hx hb dX0_grow_25 (by decide) ?_
      refine z_ge (X := ((c : Nat) : Int)) (Y := 16807) (tgt := 61) hx hb dX0_grow_28 (by decide) (nI_toInt (by omega)) (by decide) (fun hc9 => ?_) (fun hc9 => ?_)
      · exact ret (tx) _ _ _ _ dX0_grow_61 (by obtain rfl : c = 16807 := (by omega); exact hX) hP hD hS
      · refine lv_aload_n hx hb dX0_grow_31 rfl (lv_at hl 0 rfl) ?_
        refine va_get (D := D) (ci := 0) (v := .ref (g 2)) (C := RX0) (T := TX0) (N := 10) hx hb hts in_X0 hown hK hP 0 rfl rfl 1 (by decide) (hts _ q36) (fun _ h9 => h9) rfl dX0_grow_32 ?_
        refine lv_iload_n hx hb dX0_grow_35 rfl (lv_at hl 1 rfl) ?_
        refine lv_iconst (v := 5) hx hb dX0_grow_36 (by decide) ?_
        refine lv_ishr hx hb dX0_grow_37 ?_
        refine tpi (y := nI (c / 32)) (nI_shr5 (by omega)) ?_
        refine xald hx hb hK hP 2 0 rfl rfl (c / 32) (rfl) (by omega) (by decide) dX0_grow_38 ?_
        refine lv_iload_n hx hb dX0_grow_39 rfl (lv_at hl 1 rfl) ?_
        refine lv_bipush (v := 31) hx hb dX0_grow_40 (by decide) ?_
        refine lv_iand hx hb dX0_grow_42 ?_
        refine tpi (y := nI (c % 32)) (nI_and31 (by omega)) ?_
        refine lv_iushr hx hb dX0_grow_43 rfl ?_
        refine lv_iconst (v := 1) hx hb dX0_grow_44 (by decide) ?_
        refine lv_iand hx hb dX0_grow_45 ?_
        refine tpi (y := bI (N c)) ((bm_test hN (by omega) (by omega)).trans (by rw [Nat.div_add_mod])) ?_
        refine lv_iconst (v := 1) hx hb dX0_grow_46 (by decide) ?_
        refine b1_ne (b := N c) (tgt := 55) hx hb dX0_grow_47 (by decide) (fun hc => ?_) (fun hc => ?_)
        · refine lv_iinc (v := nI (c + 1)) (lv' := [(1, .int (nI (c + 1))), (0, .ref (g 0))]) hx hb dX0_grow_55 hl (k := 1) rfl (nI_1 _) (by decide) rfl (fun ls hl => ?_)
          refine lv_goto (tgt := 24) hx hb dX0_grow_58 (by decide) ?_
          exact ih (c + 1) tx _ _ _ (by omega) (by omega) (by rw [gro_no hc]; exact hX) hP hD hS (lv_sub hl [1, 0] rfl)
        · refine lv_aload_n hx hb dX0_grow_50 rfl (lv_at hl 0 rfl) ?_
          refine lv_iload_n hx hb dX0_grow_51 rfl (lv_at hl 1 rfl) ?_
          refine cVO (As := [.int (nI c)]) (rest := []) S (metX0_growRow (c := c) (w := w) (L := L) (X := gro w L N c) hq hw ho hL rfl hlen hm (by omega) hX) (cwV 1 hts (lw_V q121 q123 qs7 q25 q124) rfl rfl rfl (by decide +kernel) ⟨Nat.le_of_ble_eq_true rfl, Nat.le_of_ble_eq_true rfl⟩) hK hP hD hS hA rfl rfl rfl hl.1 rfl (Nat.le_of_ble_eq_true rfl) dX0_grow_52 ⟨Nat.zero_le _, Nat.zero_le _⟩ (fun u H locs hu hP hD hS => ?_)
          have hu : bmr u (gra w L c (gro w L N c) 5) := hu
          have hP : va_P D vwCl (wB g d fw fn u fl fp ft fk fr (nI L.length) cur) H := hP
          have hD : va_D A (wB g d fw fn u fl fp ft fk fr (nI L.length) cur) := hD
          refine lv_iinc (v := nI (c + 1)) (lv' := [(1, .int (nI (c + 1))), (0, .ref (g 0))]) hx hb dX0_grow_55 hl (k := 1) rfl (nI_1 _) (by decide) rfl (fun ls hl => ?_)
          refine lv_goto (tgt := 24) hx hb dX0_grow_58 (by decide) ?_
          exact ih (c + 1) u _ _ _ (by omega) (by omega) (by rw [gro_yes hc]; exact hu) hP hD hS (lv_sub hl [1, 0] rfl)
  have lp : ∀ (k : Nat) (j : Nat) (tx : Nat → Int32) (H : Heap) (locs : List Loc) (ls : Array Slot), 526 - j < k → j ≤ 526 → (∀ k, k < j → tx k = 0) → va_P D vwCl (wB g d fw fn tx fl fp ft fk fr (nI L.length) cur) H → va_D A (wB g d fw fn tx fl fp ft fk fr (nI L.length) cur) → va_S A s.heap H locs → lv_has ls 2 [(0, .ref (g 0)), (1, .int (nI j))] → W p l e rX0_grow s m args below meth mc H locs 0 0 Q (F0 m 2 ls []) := by
    intro k
    induction k with
    | zero =>
      intro j tx H locs ls hk
      exact absurd hk (Nat.not_lt_zero _)
    | succ k ih =>
      intro j tx H locs ls hk hj hz0 hP hD hS hl
      refine lv_iload_n hx hb dX0_grow_2 rfl (lv_at hl 1 rfl) ?_
      refine lv_sipush (v := 526) hx hb dX0_grow_3 (by decide) ?_
      refine z_ge (X := ((j : Nat) : Int)) (Y := 526) (tgt := 22) hx hb dX0_grow_6 (by decide) (nI_toInt (by omega)) (by decide) (fun hc => ?_) (fun hc => ?_)
      · refine lv_iconst (v := 0) hx hb dX0_grow_22 (by decide) ?_
        refine lv_istore_n (lv' := [(1, .int 0), (0, .ref (g 0))]) hx hb dX0_grow_23 rfl hl (by decide) rfl (fun ls hl => ?_)
        exact lp2 _ 0 tx _ _ _ (Nat.lt_succ_self _) (by omega) (bm_zero (fun k hk => hz0 k (by omega))) hP hD hS (lv_sub hl [1, 0] rfl)
      · refine lv_aload_n hx hb dX0_grow_9 rfl (lv_at hl 0 rfl) ?_
        refine va_get (D := D) (ci := 0) (v := .ref (g 3)) (C := RX0) (T := TX0) (N := 10) hx hb hts in_X0 hown hK hP 0 rfl rfl 2 (by decide) (hts _ q37) (fun _ h9 => h9) rfl dX0_grow_10 ?_
        refine lv_iload_n hx hb dX0_grow_13 rfl (lv_at hl 1 rfl) ?_
        refine lv_iconst (v := 0) hx hb dX0_grow_14 (by decide) ?_
        refine xast (x := 0) hx hb hK hP hD hS 3 0 rfl rfl (j) (rfl) (by omega) (by decide) dX0_grow_15 (fun H locs hP hD hS => ?_)
        have hP : va_P D vwCl (wB g d fw fn (upd tx j 0) fl fp ft fk fr (nI L.length) cur) H := hP
        have hD : va_D A (wB g d fw fn (upd tx j 0) fl fp ft fk fr (nI L.length) cur) := hD
        refine lv_iinc (v := nI (j + 1)) (lv' := [(1, .int (nI (j + 1))), (0, .ref (g 0))]) hx hb dX0_grow_16 hl (k := 1) rfl (nI_1 _) (by decide) rfl (fun ls hl => ?_)
        refine lv_goto (tgt := 2) hx hb dX0_grow_19 (by decide) ?_
        exact ih (j + 1) (upd tx j 0) _ _ _ (by omega) (by omega) (fun k hk => upd_0 hz0 k hk) hP hD hS (lv_sub hl [1, 0] rfl)
  refine lv_iconst (v := 0) hx hb dX0_grow_0 (by decide) ?_
  refine lv_istore_n (lv' := [(1, .int 0), (0, .ref (g 0))]) hx hb dX0_grow_1 rfl hl (by decide) rfl (fun ls hl => ?_)
  exact lp _ 0 fx _ _ _ (Nat.lt_succ_self _) (by omega) (fun k hk => absurd hk (Nat.not_lt_zero _)) hP hD hS (lv_sub hl [1, 0] rfl)
abbrev rX0_gather : Room := { frames := 3, cells := 0, slots := 0, locals := 68 }
set_option maxHeartbeats 4000000 in
set_option maxRecDepth 100000 in
theorem metX0_gather {l : Launch} {D : va_G} {d : ClassId} {g : Nat → Nat} {fw fn fx fl fp ft fk fr : Nat → Int32} {cnt cur : Int32} {hz : Nat} {w : Nat → Int} {L : List Nat} {N : Nat → Bool} (hq : okp fp) (hw : hww fw w) (ho : okw w) (hL : hli fl L) (hn : cnt = nI L.length) (hlen : L.length ≤ 400) (hm : ∀ a, a ∈ L → a < 16807) (hN : bmr fn N) (hNb : ∀ c, N c = true → c < 16807) : mVO l yX0_gather cX0_gather 4 rX0_gather [.ref (g 0)] D d (wB g d fw fn fx fl fp ft fk fr cnt cur) hz (S := (Nat → Int32) × (Nat → Int32)) (fun u => bmr u.1 (gn w N) ∧ hli u.2 (gf w N L 16832)) (fun u => wB g d fw u.1 fx u.2 fp ft fk fr (nI (gf w N L 16832).length) cur) := by
  refine mVO.ofW (by decide) (Nat.le_of_ble_eq_true rfl) ?_
  intro p e s m args below meth mc Q A ls S hP hK hA hS hl hD ret
  have S : CallFix p m mc cX0_gather 4 s args lw_all RX0 := S
  have hx := S.1
  have hb := S.2.1
  have hown := S.2.2.2.1
  have hts := S.2.2.2.2
  have hl : lv_has ls 4 [(0, .ref (g 0))] := hl
  subst hn
  have lp : ∀ (k : Nat) (a : Nat) (tn tl : Nat → Int32) (H : Heap) (locs : List Loc) (ls : Array Slot), 526 - a < k → a ≤ 526 → bmr tn (cbm w N (32 * a)) → hli tl (gf w N L (32 * a)) → va_P D vwCl (wB g d fw tn fx tl fp ft fk fr (nI (gf w N L (32 * a)).length) cur) H → va_D A (wB g d fw tn fx tl fp ft fk fr (nI (gf w N L (32 * a)).length) cur) → va_S A s.heap H locs → lv_has ls 4 [(0, .ref (g 0)), (1, .int (nI a))] → W p l e rX0_gather s m args below meth mc H locs 0 0 Q (F0 m 2 ls []) := by
    intro k
    induction k with
    | zero =>
      intro a tn tl H locs ls hk
      exact absurd hk (Nat.not_lt_zero _)
    | succ k ih =>
      intro a tn tl H locs ls hk ha hB hT hP hD hS hl
      refine lv_iload_n hx hb dX0_gather_2 rfl (lv_at hl 1 rfl) ?_
      refine lv_sipush (v := 526) hx hb dX0_gather_3 (by decide) ?_
      refine z_ge (X := ((a : Nat) : Int)) (Y := 526) (tgt := 123) hx hb dX0_gather_6 (by decide) (nI_toInt (by omega)) (by decide) (fun hc => ?_) (fun hc => ?_)
      · obtain rfl : a = 526 := (by omega)
        exact ret ((tn, tl)) _ _ _ _ dX0_gather_123 (⟨bm_congr hB (fun c h => if_pos h), hT⟩) hP hD hS
      · have ha2 : a < 526 := by omega
        have x1 : ∀ (tn3 tl3 : Nat → Int32) (H : Heap) (locs : List Loc) (ls : Array Slot), (bmr tn3 (cbm w N (32 * (a + 1)))) → (hli tl3 (gf w N L (32 * (a + 1)))) → va_P D vwCl (wB g d fw tn3 fx tl3 fp ft fk fr (nI (gf w N L (32 * (a + 1))).length) cur) H → va_D A (wB g d fw tn3 fx tl3 fp ft fk fr (nI (gf w N L (32 * (a + 1))).length) cur) → va_S A s.heap H locs → lv_has ls 4 [(0, .ref (g 0)), (1, .int (nI a))] → W p l e rX0_gather s m args below meth mc H locs 0 0 Q (F0 m 117 ls []) := by
          intro tn3 tl3 H locs ls hB3 hT3 hP hD hS hl
          refine lv_iinc (v := nI (a + 1)) (lv' := [(1, .int (nI (a + 1))), (0, .ref (g 0))]) hx hb dX0_gather_117 hl (k := 1) rfl (nI_1 _) (by decide) rfl (fun ls hl => ?_)
          refine lv_goto (tgt := 2) hx hb dX0_gather_120 (by decide) ?_
          exact ih (a + 1) tn3 tl3 _ _ _ (by omega) (by omega) hB3 hT3 hP hD hS (lv_sub hl [1, 0] rfl)
        have lp2 : ∀ (k : Nat) (b : Nat) (tn2 tl2 : Nat → Int32) (H : Heap) (locs : List Loc) (ls : Array Slot), 32 - b < k → b ≤ 32 → bmr tn2 (cbm w N (32 * a + b)) → hli tl2 (gf w N L (32 * a + b)) → va_P D vwCl (wB g d fw tn2 fx tl2 fp ft fk fr (nI (gf w N L (32 * a + b)).length) cur) H → va_D A (wB g d fw tn2 fx tl2 fp ft fk fr (nI (gf w N L (32 * a + b)).length) cur) → va_S A s.heap H locs → lv_has ls 4 [(0, .ref (g 0)), (1, .int (nI a)), (2, .int (nI b))] → W p l e rX0_gather s m args below meth mc H locs 0 0 Q (F0 m 11 ls []) := by
          intro k
          induction k with
          | zero =>
            intro b tn2 tl2 H locs ls hk
            exact absurd hk (Nat.not_lt_zero _)
          | succ k ih2 =>
            intro b tn2 tl2 H locs ls hk hb2 hB2 hT2 hP hD hS hl
            refine lv_iload_n hx hb dX0_gather_11 rfl (lv_at hl 2 rfl) ?_
            refine lv_bipush (v := 32) hx hb dX0_gather_12 (by decide) ?_
            refine z_ge (X := ((b : Nat) : Int)) (Y := 32) (tgt := 117) hx hb dX0_gather_14 (by decide) (nI_toInt (by omega)) (by decide) (fun hc => ?_) (fun hc => ?_)
            · obtain rfl : b = 32 := (by omega)
              exact x1 tn2 tl2 _ _ _ hB2 hT2 hP hD hS (lv_sub hl [0, 1] rfl)
            · have hb3 : b < 32 := by omega
              refine lv_aload_n hx hb dX0_gather_17 rfl (lv_at hl 0 rfl) ?_
              refine va_get (D := D) (ci := 0) (v := .ref (g 2)) (C := RX0) (T := TX0) (N := 10) hx hb hts in_X0 hown hK hP 0 rfl rfl 1 (by decide) (hts _ q36) (fun _ h9 => h9) rfl dX0_gather_18 ?_
              refine lv_iload_n hx hb dX0_gather_21 rfl (lv_at hl 1 rfl) ?_
              refine xald hx hb hK hP 2 0 rfl rfl (a) (rfl) (ha2) (by decide) dX0_gather_22 ?_
              refine z0_eq (X := (tn2 a).toInt) (tgt := 117) hx hb dX0_gather_23 (by decide) rfl (fun hc => ?_) (fun hc => ?_)
              · have h0 : tn2 a = 0 := Int32.toInt_inj.mp hc
                have hz0 : ∀ c, 32 * a + b ≤ c → c < 32 * a + b + (32 - b) → N c = false := fun c h1 h2 => by
                  have q := bm_word hB2 h0 (c := c) (by omega) (by omega)
                  unfold cbm at q
                  rw [if_neg (by omega)] at q
                  exact q
                have e1 : cbm w N (32 * (a + 1)) = cbm w N (32 * a + b) := by
                  rw [show 32 * (a + 1) = 32 * a + b + (32 - b) by omega]
                  exact cbm_skip _ hz0
                have e2 : gf w N L (32 * (a + 1)) = gf w N L (32 * a + b) := by
                  rw [show 32 * (a + 1) = 32 * a + b + (32 - b) by omega]
                  exact gf_skip _ hz0
                rw [← e2] at hP hD hT2
                rw [← e1] at hB2
                exact x1 tn2 tl2 _ _ _ hB2 hT2 hP hD hS (lv_sub hl [0, 1] rfl)
              · have hbd := sm_bound ho (32 * a + b)
                have x2 : ∀ (tn3 tl3 : Nat → Int32) (H : Heap) (locs : List Loc) (ls : Array Slot), (bmr tn3 (cbm w N (32 * a + b + 1))) → (hli tl3 (gf w N L (32 * a + b + 1))) → va_P D vwCl (wB g d fw tn3 fx tl3 fp ft fk fr (nI (gf w N L (32 * a + b + 1)).length) cur) H → va_D A (wB g d fw tn3 fx tl3 fp ft fk fr (nI (gf w N L (32 * a + b + 1)).length) cur) → va_S A s.heap H locs → lv_has ls 4 [(0, .ref (g 0)), (1, .int (nI a)), (2, .int (nI b))] → W p l e rX0_gather s m args below meth mc H locs 0 0 Q (F0 m 111 ls []) := by
                  intro tn3 tl3 H locs ls hB3 hT3 hP hD hS hl
                  refine lv_iinc (v := nI (b + 1)) (lv' := [(2, .int (nI (b + 1))), (0, .ref (g 0)), (1, .int (nI a))]) hx hb dX0_gather_111 hl (k := 2) rfl (nI_1 _) (by decide) rfl (fun ls hl => ?_)
                  refine lv_goto (tgt := 11) hx hb dX0_gather_114 (by decide) ?_
                  exact ih2 (b + 1) tn3 tl3 _ _ _ (by omega) (by omega) hB3 hT3 hP hD hS (lv_sub hl [1, 2, 0] rfl)
                have same : ¬ (N (32 * a + b) = true ∧ sm w (32 * a + b) = 0 ∧ hp (gf w N L (32 * a + b)) (32 * a + b) = false ∧ (gf w N L (32 * a + b)).length < 400) → gf w N L (32 * a + b + 1) = gf w N L (32 * a + b) := gf_same
                refine lv_bipush (v := 32) hx hb dX0_gather_26 (by decide) ?_
                refine lv_iload_n hx hb dX0_gather_28 rfl (lv_at hl 1 rfl) ?_
                refine lv_imul hx hb dX0_gather_29 ?_
                refine tpi (y := nI (32 * a)) (pk_mul 32 a) ?_
                refine lv_iload_n hx hb dX0_gather_30 rfl (lv_at hl 2 rfl) ?_
                refine lv_iadd hx hb dX0_gather_31 ?_
                refine tpi (y := nI (32 * a + b)) (nI_add _ _) ?_
                refine lv_istore_n (lv' := [(3, .int (nI (32 * a + b))), (0, .ref (g 0)), (1, .int (nI a)), (2, .int (nI b))]) hx hb dX0_gather_32 rfl hl (by decide) rfl (fun ls hl => ?_)
                refine lv_aload_n hx hb dX0_gather_33 rfl (lv_at hl 1 rfl) ?_
                refine va_get (D := D) (ci := 0) (v := .ref (g 2)) (C := RX0) (T := TX0) (N := 10) hx hb hts in_X0 hown hK hP 0 rfl rfl 1 (by decide) (hts _ q36) (fun _ h9 => h9) rfl dX0_gather_34 ?_
                refine lv_iload_n hx hb dX0_gather_37 rfl (lv_at hl 2 rfl) ?_
                refine xald hx hb hK hP 2 0 rfl rfl (a) (rfl) (ha2) (by decide) dX0_gather_38 ?_
                refine lv_iload_n hx hb dX0_gather_39 rfl (lv_at hl 3 rfl) ?_
                refine lv_iushr hx hb dX0_gather_40 rfl ?_
                refine lv_iconst (v := 1) hx hb dX0_gather_41 (by decide) ?_
                refine lv_iand hx hb dX0_gather_42 ?_
                refine tpi (y := bI (N (32 * a + b))) ((bm_test hB2 (by omega) (by omega)).trans (by rw [show cbm w N (32 * a + b) (32 * a + b) = N (32 * a + b) from if_neg (Nat.lt_irrefl _)])) ?_
                refine lv_iconst (v := 1) hx hb dX0_gather_43 (by decide) ?_
                refine b1_ne (b := N (32 * a + b)) (tgt := 111) hx hb dX0_gather_44 (by decide) (fun hc => ?_) (fun hc => ?_)
                · have e1 := same (fun q => by rw [hc] at q; cases q.1)
                  have e2 : cbm w N (32 * a + b + 1) = cbm w N (32 * a + b) := cbm_same (Or.inl hc)
                  rw [← e1] at hP hD hT2
                  rw [← e2] at hB2
                  exact x2 tn2 tl2 _ _ _ hB2 hT2 hP hD hS (lv_sub hl [1, 2, 3] rfl)
                · have hNc := hNb _ hc
                  refine lv_aload_n hx hb dX0_gather_47 rfl (lv_at hl 1 rfl) ?_
                  refine lv_iload_n hx hb dX0_gather_48 rfl (lv_at hl 0 rfl) ?_
                  refine cRO (As := [.int (nI (32 * a + b))]) (rest := []) S (metX0_sumOf (c := 32 * a + b) (w := w) hq hw (by omega)) (cwV 1 hts (lw_V q89 q91 qs0 q25 q92) rfl rfl rfl (by decide +kernel) ⟨Nat.le_of_ble_eq_true rfl, Nat.le_of_ble_eq_true rfl⟩) hK hP hS hA rfl rfl rfl hl.1 rfl (Nat.le_of_ble_eq_true rfl) dX0_gather_49 ⟨Nat.zero_le _, Nat.zero_le _⟩ (fun r9 H locs hr hP hS => ?_)
                  obtain rfl : r9 = iI (sm w (32 * a + b)) := hr
                  refine z0_ne (X := (sm w (32 * a + b))) (tgt := 111) hx hb dX0_gather_52 (by decide) (iI_toInt (by omega) (by omega)) (fun hs => ?_) (fun hs => ?_)
                  · have e1 := same (fun q => hs q.2.1)
                    have e2 : cbm w N (32 * a + b + 1) = cbm w N (32 * a + b) := cbm_same (Or.inr hs)
                    rw [← e1] at hP hD hT2
                    rw [← e2] at hB2
                    exact x2 tn2 tl2 _ _ _ hB2 hT2 hP hD hS (lv_sub hl [1, 2, 3] rfl)
                  · have x3 : ∀ (tl3 : Nat → Int32) (H : Heap) (locs : List Loc) (ls : Array Slot), (hli tl3 (gf w N L (32 * a + b + 1))) → va_P D vwCl (wB g d fw tn2 fx tl3 fp ft fk fr (nI (gf w N L (32 * a + b + 1)).length) cur) H → va_D A (wB g d fw tn2 fx tl3 fp ft fk fr (nI (gf w N L (32 * a + b + 1)).length) cur) → va_S A s.heap H locs → lv_has ls 4 [(0, .ref (g 0)), (1, .int (nI a)), (2, .int (nI b)), (3, .int (nI (32 * a + b)))] → W p l e rX0_gather s m args below meth mc H locs 0 0 Q (F0 m 93 ls []) := by
                      intro tl3 H locs ls hT3 hP hD hS hl
                      refine lv_aload_n hx hb dX0_gather_93 rfl (lv_at hl 0 rfl) ?_
                      refine va_get (D := D) (ci := 0) (v := .ref (g 2)) (C := RX0) (T := TX0) (N := 10) hx hb hts in_X0 hown hK hP 0 rfl rfl 1 (by decide) (hts _ q36) (fun _ h9 => h9) rfl dX0_gather_94 ?_
                      refine lv_iload_n hx hb dX0_gather_97 rfl (lv_at hl 1 rfl) ?_
                      refine lv_aload_n hx hb dX0_gather_98 rfl (lv_at hl 0 rfl) ?_
                      refine va_get (D := D) (ci := 0) (v := .ref (g 2)) (C := RX0) (T := TX0) (N := 10) hx hb hts in_X0 hown hK hP 0 rfl rfl 1 (by decide) (hts _ q36) (fun _ h9 => h9) rfl dX0_gather_99 ?_
                      refine lv_iload_n hx hb dX0_gather_102 rfl (lv_at hl 1 rfl) ?_
                      refine xald hx hb hK hP 2 0 rfl rfl (a) (rfl) (ha2) (by decide) dX0_gather_103 ?_
                      refine lv_iconst (v := 1) hx hb dX0_gather_104 (by decide) ?_
                      refine lv_iload_n hx hb dX0_gather_105 rfl (lv_at hl 2 rfl) ?_
                      refine lv_ishl hx hb dX0_gather_106 ?_
                      refine lv_iconst (v := -1) hx hb dX0_gather_107 (by decide) ?_
                      refine lv_ixor hx hb dX0_gather_108 ?_
                      refine lv_iand hx hb dX0_gather_109 ?_
                      refine tpi (y := tn2 a &&& (((1 : Int32) <<< (nI b &&& 31)) ^^^ (-1))) (rfl) ?_
                      refine xast (x := tn2 a &&& (((1 : Int32) <<< (nI b &&& 31)) ^^^ (-1))) hx hb hK hP hD hS 2 0 rfl rfl (a) (rfl) (ha2) (by decide) dX0_gather_110 (fun H locs hP hD hS => ?_)
                      have hP : va_P D vwCl (wB g d fw (upd tn2 a (tn2 a &&& (((1 : Int32) <<< (nI b &&& 31)) ^^^ (-1)))) fx tl3 fp ft fk fr (nI (gf w N L (32 * a + b + 1)).length) cur) H := hP
                      have hD : va_D A (wB g d fw (upd tn2 a (tn2 a &&& (((1 : Int32) <<< (nI b &&& 31)) ^^^ (-1)))) fx tl3 fp ft fk fr (nI (gf w N L (32 * a + b + 1)).length) cur) := hD
                      exact x2 (upd tn2 a (tn2 a &&& (((1 : Int32) <<< (nI b &&& 31)) ^^^ (-1)))) tl3 _ _ _ (by rw [cbm_off hs]; exact bm_clr hB2 ha2 hb3) hT3 hP hD hS (lv_sub hl [0, 1, 2] rfl)
                    have hgl := gf_len (w := w) (N := N) hlen (32 * a + b)
                    refine lv_aload_n hx hb dX0_gather_55 rfl (lv_at hl 1 rfl) ?_
                    refine lv_iload_n hx hb dX0_gather_56 rfl (lv_at hl 0 rfl) ?_
                    refine cRO (As := [.int (nI (32 * a + b))]) (rest := []) S (metX0_hasPart (c := 32 * a + b) (L := gf w N L (32 * a + b)) hq hT2 rfl hgl (gf_mem hm hNb _) (by omega)) (cwV 1 hts (lw_V q109 q111 qs4 q25 q112) rfl rfl rfl (by decide +kernel) ⟨Nat.le_of_ble_eq_true rfl, Nat.le_of_ble_eq_true rfl⟩) hK hP hS hA rfl rfl rfl hl.1 rfl (Nat.le_of_ble_eq_true rfl) dX0_gather_57 ⟨Nat.zero_le _, Nat.zero_le _⟩ (fun r9 H locs hr hP hS => ?_)
                    obtain rfl : r9 = bI (hp (gf w N L (32 * a + b)) (32 * a + b)) := hr
                    refine b_ne (b := hp (gf w N L (32 * a + b)) (32 * a + b)) (tgt := 93) hx hb dX0_gather_60 (by decide) (fun hpc => ?_) (fun hpc => ?_)
                    · have e1 := same (fun q => by rw [q.2.2.1] at hpc; cases hpc)
                      rw [← e1] at hP hD hT2
                      exact x3 tl2 _ _ _ hT2 hP hD hS (lv_sub hl [1, 2, 3, 0] rfl)
                    · refine lv_aload_n hx hb dX0_gather_63 rfl (lv_at hl 1 rfl) ?_
                      refine va_get (D := D) (ci := 0) (v := .int (nI (gf w N L (32 * a + b)).length)) (C := RX0) (T := TX0) (N := 10) hx hb hts in_X0 hown hK hP 0 rfl rfl 8 (by decide) (hts _ q43) (fun _ h9 => h9) rfl dX0_gather_64 ?_
                      refine lv_sipush (v := 400) hx hb dX0_gather_67 (by decide) ?_
                      refine z_ge (X := (((gf w N L (32 * a + b)).length : Nat) : Int)) (Y := 400) (tgt := 93) hx hb dX0_gather_70 (by decide) (nI_toInt (by omega)) (by decide) (fun hc4 => ?_) (fun hc4 => ?_)
                      · have e1 := same (fun q => by have := q.2.2.2; omega)
                        rw [← e1] at hP hD hT2
                        exact x3 tl2 _ _ _ hT2 hP hD hS (lv_sub hl [1, 2, 3, 0] rfl)
                      · refine lv_aload_n hx hb dX0_gather_73 rfl (lv_at hl 1 rfl) ?_
                        refine va_get (D := D) (ci := 0) (v := .ref (g 4)) (C := RX0) (T := TX0) (N := 10) hx hb hts in_X0 hown hK hP 0 rfl rfl 3 (by decide) (hts _ q38) (fun _ h9 => h9) rfl dX0_gather_74 ?_
                        refine lv_aload_n hx hb dX0_gather_77 rfl (lv_at hl 1 rfl) ?_
                        refine va_get (D := D) (ci := 0) (v := .int (nI (gf w N L (32 * a + b)).length)) (C := RX0) (T := TX0) (N := 10) hx hb hts in_X0 hown hK hP 0 rfl rfl 8 (by decide) (hts _ q43) (fun _ h9 => h9) rfl dX0_gather_78 ?_
                        refine lv_iload_n hx hb dX0_gather_81 rfl (lv_at hl 0 rfl) ?_
                        refine xast (x := nI (32 * a + b)) hx hb hK hP hD hS 4 0 rfl rfl ((gf w N L (32 * a + b)).length) (rfl) (by omega) (by decide) dX0_gather_82 (fun H locs hP hD hS => ?_)
                        have hP : va_P D vwCl (wB g d fw tn2 fx (upd tl2 ((gf w N L (32 * a + b)).length) (nI (32 * a + b))) fp ft fk fr (nI (gf w N L (32 * a + b)).length) cur) H := hP
                        have hD : va_D A (wB g d fw tn2 fx (upd tl2 ((gf w N L (32 * a + b)).length) (nI (32 * a + b))) fp ft fk fr (nI (gf w N L (32 * a + b)).length) cur) := hD
                        refine lv_aload_n hx hb dX0_gather_83 rfl (lv_at hl 1 rfl) ?_
                        refine lv_dup hx hb dX0_gather_84 rfl ?_
                        refine va_get (D := D) (ci := 0) (v := .int (nI (gf w N L (32 * a + b)).length)) (C := RX0) (T := TX0) (N := 10) hx hb hts in_X0 hown hK hP 0 rfl rfl 8 (by decide) (hts _ q43) (fun _ h9 => h9) rfl dX0_gather_85 ?_
                        refine lv_iconst (v := 1) hx hb dX0_gather_88 (by decide) ?_
                        refine lv_iadd hx hb dX0_gather_89 ?_
                        refine tpi (y := nI ((gf w N L (32 * a + b)).length + 1)) (nI_1 _) ?_
                        refine va_put (D := D) (ci := 0) (v := .int (nI ((gf w N L (32 * a + b)).length + 1))) (ty := .int) (C := RX0) (T := TX0) (N := 10) hx hb hts in_X0 tyX0 tyX0_ok nmX0 hown hK hP hD hS 0 rfl rfl 8 (by decide) (hts _ q43) (fun _ h9 => h9) rfl (by decide +kernel) rfl rfl (Nat.le_of_ble_eq_true rfl) dX0_gather_90 (fun H locs hP hD hS => ?_)
                        have hP : va_P D vwCl (wB g d fw tn2 fx (upd tl2 ((gf w N L (32 * a + b)).length) (nI (32 * a + b))) fp ft fk fr (nI ((gf w N L (32 * a + b)).length + 1)) cur) H := hP
                        have hD : va_D A (wB g d fw tn2 fx (upd tl2 ((gf w N L (32 * a + b)).length) (nI (32 * a + b))) fp ft fk fr (nI ((gf w N L (32 * a + b)).length + 1)) cur) := hD
                        have e1 : gf w N L (32 * a + b + 1) = gf w N L (32 * a + b) ++ [32 * a + b] := gf_more ⟨hc, hs, hpc, by omega⟩
                        have e2 : (gf w N L (32 * a + b)).length + 1 = (gf w N L (32 * a + b + 1)).length := by rw [e1]; simp
                        rw [e2] at hP hD
                        exact x3 (upd tl2 ((gf w N L (32 * a + b)).length) (nI (32 * a + b))) _ _ _ (by rw [e1]; exact hli_push _ hT2) hP hD hS (lv_sub hl [1, 2, 3, 0] rfl)
        refine lv_iconst (v := 0) hx hb dX0_gather_9 (by decide) ?_
        refine lv_istore_n (lv' := [(2, .int 0), (0, .ref (g 0)), (1, .int (nI a))]) hx hb dX0_gather_10 rfl hl (by decide) rfl (fun ls hl => ?_)
        exact lp2 _ 0 tn tl _ _ _ (Nat.lt_succ_self _) (by omega) hB hT hP hD hS (lv_sub hl [1, 2, 0] rfl)
  refine lv_iconst (v := 0) hx hb dX0_gather_0 (by decide) ?_
  refine lv_istore_n (lv' := [(1, .int 0), (0, .ref (g 0))]) hx hb dX0_gather_1 rfl hl (by decide) rfl (fun ls hl => ?_)
  exact lp _ 0 fn fl _ _ _ (Nat.lt_succ_self _) (by omega) (by rw [show 32 * 0 = 0 from rfl, cbm_0]; exact hN) hL hP hD hS (lv_sub hl [1, 0] rfl)
end
section
/-! sortList, refresh -/
def unk : Nat → Nat → Bool
  | 0 => fun _ => false
  | i + 1 => fun x => unk i x || decide (x = pw i)
theorem unk_5 (c : Nat) : unk 5 c = un c := by
  simp [unk, un, pw]
theorem cons_of_len {C : List Nat} (h : 0 < C.length) : ∃ v C', C = v :: C' := by
  cases C with
  | nil => exact absurd h (Nat.lt_irrefl _)
  | cons v C' => exact ⟨v, C', rfl⟩
theorem last_of_len {C : List Nat} (h : 0 < C.length) : ∃ C' v, C = C' ++ [v] := ⟨C.dropLast, C.getLast (List.length_pos_iff.mp h), (List.dropLast_concat_getLast _).symm⟩
theorem upd_cp {f h : Nat → Int32} {j : Nat} (e : ∀ k, k < j → f k = h k) (k : Nat) (hk : k < j + 1) : upd f j (h j) k = h k := by
  by_cases q : k = j
  · subst q
    exact pk_us
  · rw [pk_un q]
    exact e k (by omega)
abbrev rX0_sortList : Room := { frames := 0, cells := 0, slots := 0, locals := 0 }
set_option maxHeartbeats 4000000 in
set_option maxRecDepth 100000 in
theorem metX0_sortList {l : Launch} {D : va_G} {d : ClassId} {g : Nat → Nat} {fw fn fx fl fp ft fk fr : Nat → Int32} {cnt cur : Int32} {hz : Nat} {L : List Nat} (hL : hli fl L) (hn : cnt = nI L.length) (hlen : L.length ≤ 400) (hm : ∀ a, a ∈ L → a < 16807) : mVO l yX0_sortList cX0_sortList 4 rX0_sortList [.ref (g 0)] D d (wB g d fw fn fx fl fp ft fk fr cnt cur) hz (S := Nat → Int32) (fun u => ∃ L' : List Nat, L'.Perm L ∧ L'.Pairwise (· ≤ ·) ∧ hli u L') (fun u => wB g d fw fn fx u fp ft fk fr cnt cur) := by
  refine mVO.ofW (by decide) (Nat.le_of_ble_eq_true rfl) ?_
  intro p e s m args below meth mc Q A ls S hP hK hA hS hl hD ret
  have S : CallFix p m mc cX0_sortList 4 s args lw_all RX0 := S
  have hx := S.1
  have hb := S.2.1
  have hown := S.2.2.2.1
  have hts := S.2.2.2.2
  have hl : lv_has ls 4 [(0, .ref (g 0))] := hl
  subst hn
  have lp : ∀ (k : Nat) (i : Nat) (P C : List Nat) (tl : Nat → Int32) (H : Heap) (locs : List Loc) (ls : Array Slot), L.length - i < k → i ≤ 401 → i = P.length ∨ (L.length < i ∧ C = []) → (P ++ C).Perm L → P.Pairwise (· ≤ ·) → hli tl (P ++ C) → va_P D vwCl (wB g d fw fn fx tl fp ft fk fr (nI L.length) cur) H → va_D A (wB g d fw fn fx tl fp ft fk fr (nI L.length) cur) → va_S A s.heap H locs → lv_has ls 4 [(0, .ref (g 0)), (1, .int (nI i))] → W p l e rX0_sortList s m args below meth mc H locs 0 0 Q (F0 m 2 ls []) := by
    intro k
    induction k with
    | zero =>
      intro i P C tl H locs ls hk
      exact absurd hk (Nat.not_lt_zero _)
    | succ k ih =>
      intro i P C tl H locs ls hk hi0 hi hpm hs hT hP hD hS hl
      have hpl := hpm.length_eq
      rw [List.length_append] at hpl
      refine lv_iload_n hx hb dX0_sortList_2 rfl (lv_at hl 1 rfl) ?_
      refine lv_aload_n hx hb dX0_sortList_3 rfl (lv_at hl 0 rfl) ?_
      refine va_get (D := D) (ci := 0) (v := .int (nI L.length)) (C := RX0) (T := TX0) (N := 10) hx hb hts in_X0 hown hK hP 0 rfl rfl 8 (by decide) (hts _ q43) (fun _ h9 => h9) rfl dX0_sortList_4 ?_
      refine z_ge (X := ((i : Nat) : Int)) (Y := ((L.length : Nat) : Int)) (tgt := 68) hx hb dX0_sortList_7 (by decide) (nI_toInt (by omega)) (nI_toInt (by omega)) (fun hc => ?_) (fun hc => ?_)
      · obtain rfl : C = [] := List.eq_nil_of_length_eq_zero (by rcases hi with q | q; omega; rw [q.2]; rfl)
        rw [List.append_nil] at hpm hT
        exact ret (tl) _ _ _ _ dX0_sortList_68 (⟨P, hpm, hs, hT⟩) hP hD hS
      · obtain rfl : i = P.length := (by omega)
        obtain ⟨v, C', rfl⟩ : ∃ v C', C = v :: C' := cons_of_len (by omega)
        have hv := hm v (hpm.mem_iff.mp (List.mem_append_right _ List.mem_cons_self))
        have hPl : P.length < L.length := by omega
        refine lv_aload_n hx hb dX0_sortList_10 rfl (lv_at hl 0 rfl) ?_
        refine va_get (D := D) (ci := 0) (v := .ref (g 4)) (C := RX0) (T := TX0) (N := 10) hx hb hts in_X0 hown hK hP 0 rfl rfl 3 (by decide) (hts _ q38) (fun _ h9 => h9) rfl dX0_sortList_11 ?_
        refine lv_iload_n hx hb dX0_sortList_14 rfl (lv_at hl 1 rfl) ?_
        refine xald hx hb hK hP 4 0 rfl rfl (P.length) (rfl) (by omega) (by decide) dX0_sortList_15 ?_
        refine tpi (y := nI v) (hli_get hT) ?_
        refine lv_istore_n (lv' := [(2, .int (nI v)), (0, .ref (g 0)), (1, .int (nI P.length))]) hx hb dX0_sortList_16 rfl hl (by decide) rfl (fun ls hl => ?_)
        refine lv_iload_n hx hb dX0_sortList_17 rfl (lv_at hl 2 rfl) ?_
        refine lv_istore_n (lv' := [(3, .int (nI P.length)), (2, .int (nI v)), (0, .ref (g 0)), (1, .int (nI P.length))]) hx hb dX0_sortList_18 rfl hl (by decide) rfl (fun ls hl => ?_)
        have lp2 : ∀ (k : Nat) (U B : List Nat) (x : Nat) (t2 : Nat → Int32) (H : Heap) (locs : List Loc) (ls : Array Slot), U.length < k → U ++ B = P → (∀ b, b ∈ B → v ≤ b) → hli t2 (U ++ x :: (B ++ C')) → va_P D vwCl (wB g d fw fn fx t2 fp ft fk fr (nI L.length) cur) H → va_D A (wB g d fw fn fx t2 fp ft fk fr (nI L.length) cur) → va_S A s.heap H locs → lv_has ls 4 [(0, .ref (g 0)), (1, .int (nI P.length)), (2, .int (nI v)), (3, .int (nI U.length))] → W p l e rX0_sortList s m args below meth mc H locs 0 0 Q (F0 m 19 ls []) := by
          intro k
          induction k with
          | zero =>
            intro U B x t2 H locs ls hk
            exact absurd hk (Nat.not_lt_zero _)
          | succ k ih2 =>
            intro U B x t2 H locs ls hk hAB hB hT2 hP hD hS hl
            have hAl : U.length + B.length = P.length := by rw [← hAB, List.length_append]
            have x1 : ∀  (H : Heap) (locs : List Loc) (ls : Array Slot), (∀ a, a ∈ U → a ≤ v) → va_P D vwCl (wB g d fw fn fx t2 fp ft fk fr (nI L.length) cur) H → va_D A (wB g d fw fn fx t2 fp ft fk fr (nI L.length) cur) → va_S A s.heap H locs → lv_has ls 4 [(0, .ref (g 0)), (1, .int (nI P.length)), (2, .int (nI v)), (3, .int (nI U.length))] → W p l e rX0_sortList s m args below meth mc H locs 0 0 Q (F0 m 55 ls []) := by
              intro  H locs ls hU hP hD hS hl
              refine lv_aload_n hx hb dX0_sortList_55 rfl (lv_at hl 0 rfl) ?_
              refine va_get (D := D) (ci := 0) (v := .ref (g 4)) (C := RX0) (T := TX0) (N := 10) hx hb hts in_X0 hown hK hP 0 rfl rfl 3 (by decide) (hts _ q38) (fun _ h9 => h9) rfl dX0_sortList_56 ?_
              refine lv_iload_n hx hb dX0_sortList_59 rfl (lv_at hl 3 rfl) ?_
              refine lv_iload_n hx hb dX0_sortList_60 rfl (lv_at hl 2 rfl) ?_
              refine xast (x := nI v) hx hb hK hP hD hS 4 0 rfl rfl (U.length) (rfl) (by omega) (by decide) dX0_sortList_61 (fun H locs hP hD hS => ?_)
              have hP : va_P D vwCl (wB g d fw fn fx (upd t2 U.length (nI v)) fp ft fk fr (nI L.length) cur) H := hP
              have hD : va_D A (wB g d fw fn fx (upd t2 U.length (nI v)) fp ft fk fr (nI L.length) cur) := hD
              refine lv_iinc (v := nI (P.length + 1)) (lv' := [(1, .int (nI (P.length + 1))), (0, .ref (g 0)), (2, .int (nI v)), (3, .int (nI U.length))]) hx hb dX0_sortList_62 hl (k := 1) rfl (nI_1 _) (by decide) rfl (fun ls hl => ?_)
              refine lv_goto (tgt := 2) hx hb dX0_sortList_65 (by decide) ?_
              have hs2 : (U ++ B).Pairwise (· ≤ ·) := by rw [hAB]; exact hs
              have q := sort_ins (C := C') hs2 hU hB
              exact ih (P.length + 1) (U ++ v :: B) C' (upd t2 U.length (nI v)) _ _ _ (by omega) (by omega) (by left; rw [List.length_append, List.length_cons]; omega) (by have q2 := q.2; rw [hAB] at q2; exact q2.trans hpm) q.1 (by have := hli_set v hT2; rw [List.append_assoc]; exact this) hP hD hS (lv_sub hl [1, 0] rfl)
            refine lv_iload_n hx hb dX0_sortList_19 rfl (lv_at hl 3 rfl) ?_
            refine z0_le (X := ((U.length : Nat) : Int)) (tgt := 55) hx hb dX0_sortList_20 (by decide) (nI_toInt (by omega)) (fun hc => ?_) (fun hc => ?_)
            · obtain rfl : U = [] := List.eq_nil_of_length_eq_zero (by omega)
              exact x1  _ _ _ (fun a ha => absurd ha List.not_mem_nil) hP hD hS (lv_sub hl [0, 1, 2, 3] rfl)
            · obtain ⟨U', y, rfl⟩ : ∃ U' y, U = U' ++ [y] := last_of_len (by omega)
              have e1 : (U' ++ [y]).length = U'.length + 1 := by rw [List.length_append, List.length_singleton]
              have hy := hm y (hpm.mem_iff.mp (List.mem_append_left _ (by rw [← hAB]; simp)))
              have hT3 : hli t2 (U' ++ y :: (x :: (B ++ C'))) := by have := hT2; rw [List.append_assoc] at this; exact this
              refine lv_aload_n hx hb dX0_sortList_23 rfl (lv_at hl 0 rfl) ?_
              refine va_get (D := D) (ci := 0) (v := .ref (g 4)) (C := RX0) (T := TX0) (N := 10) hx hb hts in_X0 hown hK hP 0 rfl rfl 3 (by decide) (hts _ q38) (fun _ h9 => h9) rfl dX0_sortList_24 ?_
              refine lv_iload_n hx hb dX0_sortList_27 rfl (lv_at hl 3 rfl) ?_
              refine lv_iconst (v := 1) hx hb dX0_sortList_28 (by decide) ?_
              refine lv_isub hx hb dX0_sortList_29 ?_
              refine tpi (y := nI U'.length) (by rw [e1]; exact nI_pred _) ?_
              refine xald hx hb hK hP 4 0 rfl rfl (U'.length) (rfl) (by omega) (by decide) dX0_sortList_30 ?_
              refine tpi (y := nI y) (hli_get hT3) ?_
              refine lv_iload_n hx hb dX0_sortList_31 rfl (lv_at hl 2 rfl) ?_
              refine z_le (X := ((y : Nat) : Int)) (Y := ((v : Nat) : Int)) (tgt := 55) hx hb dX0_sortList_32 (by decide) (nI_toInt (by omega)) (nI_toInt (by omega)) (fun hc => ?_) (fun hc => ?_)
              · exact x1  _ _ _ (fun a ha => Nat.le_trans (sort_last (B := B) (by rw [hAB]; exact hs) a ha) (by omega)) hP hD hS (lv_sub hl [0, 1, 2, 3] rfl)
              · refine lv_aload_n hx hb dX0_sortList_35 rfl (lv_at hl 0 rfl) ?_
                refine va_get (D := D) (ci := 0) (v := .ref (g 4)) (C := RX0) (T := TX0) (N := 10) hx hb hts in_X0 hown hK hP 0 rfl rfl 3 (by decide) (hts _ q38) (fun _ h9 => h9) rfl dX0_sortList_36 ?_
                refine lv_iload_n hx hb dX0_sortList_39 rfl (lv_at hl 3 rfl) ?_
                refine lv_aload_n hx hb dX0_sortList_40 rfl (lv_at hl 0 rfl) ?_
                refine va_get (D := D) (ci := 0) (v := .ref (g 4)) (C := RX0) (T := TX0) (N := 10) hx hb hts in_X0 hown hK hP 0 rfl rfl 3 (by decide) (hts _ q38) (fun _ h9 => h9) rfl dX0_sortList_41 ?_
                refine lv_iload_n hx hb dX0_sortList_44 rfl (lv_at hl 3 rfl) ?_
                refine lv_iconst (v := 1) hx hb dX0_sortList_45 (by decide) ?_
                refine lv_isub hx hb dX0_sortList_46 ?_
                refine tpi (y := nI U'.length) (by rw [e1]; exact nI_pred _) ?_
                refine xald hx hb hK hP 4 0 rfl rfl (U'.length) (rfl) (by omega) (by decide) dX0_sortList_47 ?_
                refine tpi (y := nI y) (hli_get hT3) ?_
                refine xast (x := nI y) hx hb hK hP hD hS 4 0 rfl rfl ((U' ++ [y]).length) (rfl) (by omega) (by decide) dX0_sortList_48 (fun H locs hP hD hS => ?_)
                have hP : va_P D vwCl (wB g d fw fn fx (upd t2 ((U' ++ [y]).length) (nI y)) fp ft fk fr (nI L.length) cur) H := hP
                have hD : va_D A (wB g d fw fn fx (upd t2 ((U' ++ [y]).length) (nI y)) fp ft fk fr (nI L.length) cur) := hD
                refine lv_iinc (v := nI U'.length) (lv' := [(3, .int (nI U'.length)), (0, .ref (g 0)), (1, .int (nI P.length)), (2, .int (nI v))]) hx hb dX0_sortList_49 hl (k := 3) rfl (by rw [e1]; exact pk_m1 _) (by decide) rfl (fun ls hl => ?_)
                refine lv_goto (tgt := 19) hx hb dX0_sortList_52 (by decide) ?_
                exact ih2 U' (y :: B) y (upd t2 ((U' ++ [y]).length) (nI y)) _ _ _ (by omega) (by rw [← hAB, List.append_assoc]; rfl) (fun b hb => by rcases List.mem_cons.mp hb with q | q; omega; exact hB b q) (by have := hli_set y hT2; rw [List.append_assoc] at this; exact this) hP hD hS (lv_sub hl [1, 2, 3, 0] rfl)
        exact lp2 _ P ([]) v tl _ _ _ (Nat.lt_succ_self _) (List.append_nil _) (fun b hb => absurd hb List.not_mem_nil) hT hP hD hS (lv_sub hl [2, 3, 1, 0] rfl)
  refine lv_iconst (v := 1) hx hb dX0_sortList_0 (by decide) ?_
  refine lv_istore_n (lv' := [(1, .int 1), (0, .ref (g 0))]) hx hb dX0_sortList_1 rfl hl (by decide) rfl (fun ls hl => ?_)
  rcases L with _ | ⟨x0, L0⟩
  · exact lp _ 1 ([]) ([]) fl _ _ _ (Nat.lt_succ_self _) (by omega) (Or.inr ⟨Nat.lt_succ_self _, rfl⟩) (List.Perm.refl _) List.Pairwise.nil hL hP hD hS (lv_sub hl [1, 0] rfl)
  · exact lp _ 1 ([x0]) L0 fl _ _ _ (Nat.lt_succ_self _) (by omega) (Or.inl rfl) (List.Perm.refl _) (List.pairwise_singleton _ _) hL hP hD hS (lv_sub hl [1, 0] rfl)
abbrev rX0_refresh : Room := { frames := 5, cells := 0, slots := 0, locals := 114 }
set_option maxHeartbeats 4000000 in
set_option maxRecDepth 100000 in
theorem metX0_refresh {l : Launch} {D : va_G} {d : ClassId} {g : Nat → Nat} {fw fn fx fl fp ft fk fr : Nat → Int32} {cnt cur : Int32} {hz : Nat} {w : Nat → Int} (hq : okp fp) (hw : hww fw w) (ho : okw w) (hi : cur = 0 ∨ (cur = 1 ∧ hli fl (LL w) ∧ cnt = nI (LL w).length)) : mVO l yX0_refresh cX0_refresh 3 rX0_refresh [.ref (g 0)] D d (wB g d fw fn fx fl fp ft fk fr cnt cur) hz (S := (Nat → Int32) × (Nat → Int32) × (Nat → Int32)) (fun u => hli u.2.2 (LL w)) (fun u => wB g d fw u.1 u.2.1 u.2.2 fp ft fk fr (nI (LL w).length) 1) := by
  refine mVO.ofW (by decide) (Nat.le_of_ble_eq_true rfl) ?_
  intro p e s m args below meth mc Q A ls S hP hK hA hS hl hD ret
  have S : CallFix p m mc cX0_refresh 3 s args lw_all RX0 := S
  have hx := S.1
  have hb := S.2.1
  have hown := S.2.2.2.1
  have hts := S.2.2.2.2
  have hl : lv_has ls 3 [(0, .ref (g 0))] := hl
  rcases hi with rfl | ⟨rfl, hL, rfl⟩
  · refine lv_aload_n hx hb dX0_refresh_0 rfl (lv_at hl 0 rfl) ?_
    refine va_get (D := D) (ci := 0) (v := .int 0) (C := RX0) (T := TX0) (N := 10) hx hb hts in_X0 hown hK hP 0 rfl rfl 9 (by decide) (hts _ q44) (fun _ h9 => h9) rfl dX0_refresh_1 ?_
    refine z0_eq (X := 0) (tgt := 8) hx hb dX0_refresh_4 (by decide) (by decide) (fun hc => ?_) (fun hc => ?_)
    · refine lv_aload_n hx hb dX0_refresh_8 rfl (lv_at hl 0 rfl) ?_
      refine lv_iconst (v := 1) hx hb dX0_refresh_9 (by decide) ?_
      refine va_put (D := D) (ci := 0) (v := .int 1) (ty := .boolean) (C := RX0) (T := TX0) (N := 10) hx hb hts in_X0 tyX0 tyX0_ok nmX0 hown hK hP hD hS 0 rfl rfl 9 (by decide) (hts _ q44) (fun _ h9 => h9) rfl (by decide +kernel) rfl rfl (Nat.le_of_ble_eq_true rfl) dX0_refresh_10 (fun H locs hP hD hS => ?_)
      have hP : va_P D vwCl (wB g d fw fn fx fl fp ft fk fr cnt 1) H := hP
      have hD : va_D A (wB g d fw fn fx fl fp ft fk fr cnt 1) := hD
      refine lv_aload_n hx hb dX0_refresh_13 rfl (lv_at hl 0 rfl) ?_
      refine lv_iconst (v := 0) hx hb dX0_refresh_14 (by decide) ?_
      refine va_put (D := D) (ci := 0) (v := .int 0) (ty := .int) (C := RX0) (T := TX0) (N := 10) hx hb hts in_X0 tyX0 tyX0_ok nmX0 hown hK hP hD hS 0 rfl rfl 8 (by decide) (hts _ q43) (fun _ h9 => h9) rfl (by decide +kernel) rfl rfl (Nat.le_of_ble_eq_true rfl) dX0_refresh_15 (fun H locs hP hD hS => ?_)
      have hP : va_P D vwCl (wB g d fw fn fx fl fp ft fk fr 0 1) H := hP
      have hD : va_D A (wB g d fw fn fx fl fp ft fk fr 0 1) := hD
      have lpC : ∀ (k : Nat) (n : Nat) (tn tx tl : Nat → Int32) (H : Heap) (locs : List Loc) (ls : Array Slot), 30 - n < k → n ≤ 30 → bmr tn (rit w n).1 → hli tl (rit w n).2 → va_P D vwCl (wB g d fw tn tx tl fp ft fk fr (nI (rit w n).2.length) 1) H → va_D A (wB g d fw tn tx tl fp ft fk fr (nI (rit w n).2.length) 1) → va_S A s.heap H locs → lv_has ls 3 [(0, .ref (g 0)), (1, .int (nI (n + 1)))] → W p l e rX0_refresh s m args below meth mc H locs 0 0 Q (F0 m 93 ls []) := by
        intro k
        induction k with
        | zero =>
          intro n tn tx tl H locs ls hk
          exact absurd hk (Nat.not_lt_zero _)
        | succ k ih =>
          intro n tn tx tl H locs ls hk hn hB hT hP hD hS hl
          obtain ⟨hr1, ⟨hr2, hr3⟩, -⟩ := rit_inv w n
          have hr4 := rit_len w n
          have hr5 : ∀ a, a ∈ (rit w n).2 → a < 16807 := fun a ha => ((hr3 a).mp ha).1.2.1
          refine lv_iload_n hx hb dX0_refresh_93 rfl (lv_at hl 1 rfl) ?_
          refine lv_bipush (v := 30) hx hb dX0_refresh_94 (by decide) ?_
          refine z_gt (X := ((n + 1 : Nat) : Int)) (Y := 30) (tgt := 140) hx hb dX0_refresh_96 (by decide) (nI_toInt (by omega)) (by decide) (fun hc => ?_) (fun hc => ?_)
          · obtain rfl : n = 30 := (by omega)
            refine lv_aload_n hx hb dX0_refresh_140 rfl (lv_at hl 0 rfl) ?_
            refine cVO (As := []) (rest := []) S (metX0_sortList (L := (rit w 30).2) hT rfl (by omega) hr5) (cwV 0 hts (lw_V q125 q127 qs8 q25 q128) rfl rfl rfl (by decide +kernel) ⟨Nat.le_of_ble_eq_true rfl, Nat.le_of_ble_eq_true rfl⟩) hK hP hD hS hA rfl rfl rfl hl.1 rfl (Nat.le_of_ble_eq_true rfl) dX0_refresh_141 ⟨Nat.zero_le _, Nat.zero_le _⟩ (fun u H locs hu hP hD hS => ?_)
            obtain ⟨L', p1, p2, p3⟩ := hu
            have e1 := rit_LL w p1 p2
            subst e1
            have e2 := p1.length_eq
            have hP : va_P D vwCl (wB g d fw tn tx u fp ft fk fr (nI (rit w 30).2.length) 1) H := hP
            have hD : va_D A (wB g d fw tn tx u fp ft fk fr (nI (rit w 30).2.length) 1) := hD
            rw [← e2] at hP hD
            exact ret ((tn, tx, u)) _ _ _ _ dX0_refresh_144 (p3) hP hD hS
          · have hg1 := gf_len (w := w) (N := (rit w n).1) (L := (rit w n).2) (by omega) 16832
            have hg2 := gf_mem (w := w) (N := (rit w n).1) (L := (rit w n).2) hr5 (fun c hc => (hr1 c hc).1) 16832
            refine lv_aload_n hx hb dX0_refresh_99 rfl (lv_at hl 0 rfl) ?_
            refine cVO (As := []) (rest := []) S (metX0_gather (w := w) (N := (rit w n).1) (L := (rit w n).2) hq hw ho hT rfl (by omega) hr5 hB (fun c hc => (hr1 c hc).1)) (cwV 0 hts (lw_V q105 q107 qs3 q25 q108) rfl rfl rfl (by decide +kernel) ⟨Nat.le_of_ble_eq_true rfl, Nat.le_of_ble_eq_true rfl⟩) hK hP hD hS hA rfl rfl rfl hl.1 rfl (Nat.le_of_ble_eq_true rfl) dX0_refresh_100 ⟨Nat.zero_le _, Nat.zero_le _⟩ (fun u H locs hu hP hD hS => ?_)
            obtain ⟨tn1, tl1⟩ := u
            obtain ⟨hB1, hT1⟩ := hu
            have hB1 : bmr tn1 (gn w (rit w n).1) := hB1
            have hT1 : hli tl1 (gf w (rit w n).1 (rit w n).2 16832) := hT1
            have hP : va_P D vwCl (wB g d fw tn1 tx tl1 fp ft fk fr (nI (gf w (rit w n).1 (rit w n).2 16832).length) 1) H := hP
            have hD : va_D A (wB g d fw tn1 tx tl1 fp ft fk fr (nI (gf w (rit w n).1 (rit w n).2 16832).length) 1) := hD
            refine lv_aload_n hx hb dX0_refresh_103 rfl (lv_at hl 0 rfl) ?_
            refine cVO (As := []) (rest := []) S (metX0_grow (w := w) (N := gn w (rit w n).1) (L := gf w (rit w n).1 (rit w n).2 16832) hq hw ho hT1 rfl hg1 hg2 hB1) (cwV 0 hts (lw_V q117 q119 qs6 q25 q120) rfl rfl rfl (by decide +kernel) ⟨Nat.le_of_ble_eq_true rfl, Nat.le_of_ble_eq_true rfl⟩) hK hP hD hS hA rfl rfl rfl hl.1 rfl (Nat.le_of_ble_eq_true rfl) dX0_refresh_104 ⟨Nat.zero_le _, Nat.zero_le _⟩ (fun u H locs hu hP hD hS => ?_)
            obtain ⟨tx1, rfl⟩ : ∃ z, z = u := ⟨_, rfl⟩
            have hX1 : bmr tx1 (gro w (gf w (rit w n).1 (rit w n).2 16832) (gn w (rit w n).1) 16807) := hu
            have hP : va_P D vwCl (wB g d fw tn1 tx1 tl1 fp ft fk fr (nI (gf w (rit w n).1 (rit w n).2 16832).length) 1) H := hP
            have hD : va_D A (wB g d fw tn1 tx1 tl1 fp ft fk fr (nI (gf w (rit w n).1 (rit w n).2 16832).length) 1) := hD
            refine lv_iconst (v := 0) hx hb dX0_refresh_107 (by decide) ?_
            refine lv_istore_n (lv' := [(2, .int 0), (0, .ref (g 0)), (1, .int (nI (n + 1)))]) hx hb dX0_refresh_108 rfl hl (by decide) rfl (fun ls hl => ?_)
            have lpD : ∀ (k : Nat) (j : Nat) (tn2 : Nat → Int32) (H : Heap) (locs : List Loc) (ls : Array Slot), 526 - j < k → j ≤ 526 → (∀ k, k < j → tn2 k = tx1 k) → va_P D vwCl (wB g d fw tn2 tx1 tl1 fp ft fk fr (nI (gf w (rit w n).1 (rit w n).2 16832).length) 1) H → va_D A (wB g d fw tn2 tx1 tl1 fp ft fk fr (nI (gf w (rit w n).1 (rit w n).2 16832).length) 1) → va_S A s.heap H locs → lv_has ls 3 [(0, .ref (g 0)), (1, .int (nI (n + 1))), (2, .int (nI j))] → W p l e rX0_refresh s m args below meth mc H locs 0 0 Q (F0 m 109 ls []) := by
              intro k
              induction k with
              | zero =>
                intro j tn2 H locs ls hk
                exact absurd hk (Nat.not_lt_zero _)
              | succ k ih2 =>
                intro j tn2 H locs ls hk hj hcp hP hD hS hl
                refine lv_iload_n hx hb dX0_refresh_109 rfl (lv_at hl 2 rfl) ?_
                refine lv_sipush (v := 526) hx hb dX0_refresh_110 (by decide) ?_
                refine z_ge (X := ((j : Nat) : Int)) (Y := 526) (tgt := 134) hx hb dX0_refresh_113 (by decide) (nI_toInt (by omega)) (by decide) (fun hc => ?_) (fun hc => ?_)
                · refine lv_iinc (v := nI (n + 1 + 1)) (lv' := [(1, .int (nI (n + 1 + 1))), (0, .ref (g 0)), (2, .int (nI j))]) hx hb dX0_refresh_134 hl (k := 1) rfl (nI_1 _) (by decide) rfl (fun ls hl => ?_)
                  refine lv_goto (tgt := 93) hx hb dX0_refresh_137 (by decide) ?_
                  exact ih (n + 1) tn2 tx1 tl1 _ _ _ (by omega) (by omega) (bm_copy hX1 (fun k hk => hcp k (by omega))) hT1 hP hD hS (lv_sub hl [1, 0] rfl)
                · refine lv_aload_n hx hb dX0_refresh_116 rfl (lv_at hl 0 rfl) ?_
                  refine va_get (D := D) (ci := 0) (v := .ref (g 2)) (C := RX0) (T := TX0) (N := 10) hx hb hts in_X0 hown hK hP 0 rfl rfl 1 (by decide) (hts _ q36) (fun _ h9 => h9) rfl dX0_refresh_117 ?_
                  refine lv_iload_n hx hb dX0_refresh_120 rfl (lv_at hl 2 rfl) ?_
                  refine lv_aload_n hx hb dX0_refresh_121 rfl (lv_at hl 0 rfl) ?_
                  refine va_get (D := D) (ci := 0) (v := .ref (g 3)) (C := RX0) (T := TX0) (N := 10) hx hb hts in_X0 hown hK hP 0 rfl rfl 2 (by decide) (hts _ q37) (fun _ h9 => h9) rfl dX0_refresh_122 ?_
                  refine lv_iload_n hx hb dX0_refresh_125 rfl (lv_at hl 2 rfl) ?_
                  refine xald hx hb hK hP 3 0 rfl rfl (j) (rfl) (by omega) (by decide) dX0_refresh_126 ?_
                  refine xast (x := tx1 j) hx hb hK hP hD hS 2 0 rfl rfl (j) (rfl) (by omega) (by decide) dX0_refresh_127 (fun H locs hP hD hS => ?_)
                  have hP : va_P D vwCl (wB g d fw (upd tn2 j (tx1 j)) tx1 tl1 fp ft fk fr (nI (gf w (rit w n).1 (rit w n).2 16832).length) 1) H := hP
                  have hD : va_D A (wB g d fw (upd tn2 j (tx1 j)) tx1 tl1 fp ft fk fr (nI (gf w (rit w n).1 (rit w n).2 16832).length) 1) := hD
                  refine lv_iinc (v := nI (j + 1)) (lv' := [(2, .int (nI (j + 1))), (0, .ref (g 0)), (1, .int (nI (n + 1)))]) hx hb dX0_refresh_128 hl (k := 2) rfl (nI_1 _) (by decide) rfl (fun ls hl => ?_)
                  refine lv_goto (tgt := 109) hx hb dX0_refresh_131 (by decide) ?_
                  exact ih2 (j + 1) (upd tn2 j (tx1 j)) _ _ _ (by omega) (by omega) (fun k hk => upd_cp hcp k hk) hP hD hS (lv_sub hl [1, 2, 0] rfl)
            exact lpD _ 0 tn1 _ _ _ (Nat.lt_succ_self _) (by omega) (fun k hk => absurd hk (Nat.not_lt_zero _)) hP hD hS (lv_sub hl [1, 2, 0] rfl)
      have lpB : ∀ (k : Nat) (i : Nat) (tn : Nat → Int32) (H : Heap) (locs : List Loc) (ls : Array Slot), 5 - i < k → i ≤ 5 → bmr tn (unk i) → va_P D vwCl (wB g d fw tn fx fl fp ft fk fr 0 1) H → va_D A (wB g d fw tn fx fl fp ft fk fr 0 1) → va_S A s.heap H locs → lv_has ls 3 [(0, .ref (g 0)), (1, .int (nI i))] → W p l e rX0_refresh s m args below meth mc H locs 0 0 Q (F0 m 42 ls []) := by
        intro k
        induction k with
        | zero =>
          intro i tn H locs ls hk
          exact absurd hk (Nat.not_lt_zero _)
        | succ k ih =>
          intro i tn H locs ls hk hi hB hP hD hS hl
          refine lv_iload_n hx hb dX0_refresh_42 rfl (lv_at hl 1 rfl) ?_
          refine lv_iconst (v := 5) hx hb dX0_refresh_43 (by decide) ?_
          refine z_ge (X := ((i : Nat) : Int)) (Y := 5) (tgt := 91) hx hb dX0_refresh_44 (by decide) (nI_toInt (by omega)) (by decide) (fun hc => ?_) (fun hc => ?_)
          · obtain rfl : i = 5 := (by omega)
            refine lv_iconst (v := 1) hx hb dX0_refresh_91 (by decide) ?_
            refine lv_istore_n (lv' := [(1, .int 1), (0, .ref (g 0))]) hx hb dX0_refresh_92 rfl hl (by decide) rfl (fun ls hl => ?_)
            exact lpC _ 0 tn fx fl _ _ _ (Nat.lt_succ_self _) (by omega) (bm_congr hB (fun c _ => unk_5 c)) (fun k hk => absurd hk (Nat.not_lt_zero _)) hP hD hS (lv_sub hl [1, 0] rfl)
          · have hi2 : i < 5 := by omega
            have hpw := pw_pos i
            refine lv_aload_n hx hb dX0_refresh_47 rfl (lv_at hl 0 rfl) ?_
            refine va_get (D := D) (ci := 0) (v := .ref (g 2)) (C := RX0) (T := TX0) (N := 10) hx hb hts in_X0 hown hK hP 0 rfl rfl 1 (by decide) (hts _ q36) (fun _ h9 => h9) rfl dX0_refresh_48 ?_
            refine lv_aload_n hx hb dX0_refresh_51 rfl (lv_at hl 0 rfl) ?_
            refine va_get (D := D) (ci := 0) (v := .ref (g 5)) (C := RX0) (T := TX0) (N := 10) hx hb hts in_X0 hown hK hP 0 rfl rfl 4 (by decide) (hts _ q39) (fun _ h9 => h9) rfl dX0_refresh_52 ?_
            refine lv_iload_n hx hb dX0_refresh_55 rfl (lv_at hl 1 rfl) ?_
            refine xald hx hb hK hP 5 0 rfl rfl (i) (rfl) (hi2) (by decide) dX0_refresh_56 ?_
            refine tpi (y := nI (pw i)) (hq i hi2) ?_
            refine lv_iconst (v := 5) hx hb dX0_refresh_57 (by decide) ?_
            refine lv_ishr hx hb dX0_refresh_58 ?_
            refine tpi (y := nI (pw i / 32)) (nI_shr5 (by omega)) ?_
            refine lv_aload_n hx hb dX0_refresh_59 rfl (lv_at hl 0 rfl) ?_
            refine va_get (D := D) (ci := 0) (v := .ref (g 2)) (C := RX0) (T := TX0) (N := 10) hx hb hts in_X0 hown hK hP 0 rfl rfl 1 (by decide) (hts _ q36) (fun _ h9 => h9) rfl dX0_refresh_60 ?_
            refine lv_aload_n hx hb dX0_refresh_63 rfl (lv_at hl 0 rfl) ?_
            refine va_get (D := D) (ci := 0) (v := .ref (g 5)) (C := RX0) (T := TX0) (N := 10) hx hb hts in_X0 hown hK hP 0 rfl rfl 4 (by decide) (hts _ q39) (fun _ h9 => h9) rfl dX0_refresh_64 ?_
            refine lv_iload_n hx hb dX0_refresh_67 rfl (lv_at hl 1 rfl) ?_
            refine xald hx hb hK hP 5 0 rfl rfl (i) (rfl) (hi2) (by decide) dX0_refresh_68 ?_
            refine tpi (y := nI (pw i)) (hq i hi2) ?_
            refine lv_iconst (v := 5) hx hb dX0_refresh_69 (by decide) ?_
            refine lv_ishr hx hb dX0_refresh_70 ?_
            refine tpi (y := nI (pw i / 32)) (nI_shr5 (by omega)) ?_
            refine xald hx hb hK hP 2 0 rfl rfl (pw i / 32) (rfl) (by omega) (by decide) dX0_refresh_71 ?_
            refine lv_iconst (v := 1) hx hb dX0_refresh_72 (by decide) ?_
            refine lv_aload_n hx hb dX0_refresh_73 rfl (lv_at hl 0 rfl) ?_
            refine va_get (D := D) (ci := 0) (v := .ref (g 5)) (C := RX0) (T := TX0) (N := 10) hx hb hts in_X0 hown hK hP 0 rfl rfl 4 (by decide) (hts _ q39) (fun _ h9 => h9) rfl dX0_refresh_74 ?_
            refine lv_iload_n hx hb dX0_refresh_77 rfl (lv_at hl 1 rfl) ?_
            refine xald hx hb hK hP 5 0 rfl rfl (i) (rfl) (hi2) (by decide) dX0_refresh_78 ?_
            refine tpi (y := nI (pw i)) (hq i hi2) ?_
            refine lv_bipush (v := 31) hx hb dX0_refresh_79 (by decide) ?_
            refine lv_iand hx hb dX0_refresh_81 ?_
            refine tpi (y := nI (pw i % 32)) (nI_and31 (by omega)) ?_
            refine lv_ishl hx hb dX0_refresh_82 ?_
            refine lv_ior hx hb dX0_refresh_83 ?_
            refine tpi (y := tn (pw i / 32) ||| ((1 : Int32) <<< (nI (pw i % 32) &&& 31))) (rfl) ?_
            refine xast (x := tn (pw i / 32) ||| ((1 : Int32) <<< (nI (pw i % 32) &&& 31))) hx hb hK hP hD hS 2 0 rfl rfl (pw i / 32) (rfl) (by omega) (by decide) dX0_refresh_84 (fun H locs hP hD hS => ?_)
            have hP : va_P D vwCl (wB g d fw (upd tn (pw i / 32) (tn (pw i / 32) ||| ((1 : Int32) <<< (nI (pw i % 32) &&& 31)))) fx fl fp ft fk fr 0 1) H := hP
            have hD : va_D A (wB g d fw (upd tn (pw i / 32) (tn (pw i / 32) ||| ((1 : Int32) <<< (nI (pw i % 32) &&& 31)))) fx fl fp ft fk fr 0 1) := hD
            refine lv_iinc (v := nI (i + 1)) (lv' := [(1, .int (nI (i + 1))), (0, .ref (g 0))]) hx hb dX0_refresh_85 hl (k := 1) rfl (nI_1 _) (by decide) rfl (fun ls hl => ?_)
            refine lv_goto (tgt := 42) hx hb dX0_refresh_88 (by decide) ?_
            exact ih (i + 1) (upd tn (pw i / 32) (tn (pw i / 32) ||| ((1 : Int32) <<< (nI (pw i % 32) &&& 31)))) _ _ _ (by omega) (by omega) (bm_set hB (by omega)) hP hD hS (lv_sub hl [1, 0] rfl)
      have lpA : ∀ (k : Nat) (j : Nat) (tn : Nat → Int32) (H : Heap) (locs : List Loc) (ls : Array Slot), 526 - j < k → j ≤ 526 → (∀ k, k < j → tn k = 0) → va_P D vwCl (wB g d fw tn fx fl fp ft fk fr 0 1) H → va_D A (wB g d fw tn fx fl fp ft fk fr 0 1) → va_S A s.heap H locs → lv_has ls 3 [(0, .ref (g 0)), (1, .int (nI j))] → W p l e rX0_refresh s m args below meth mc H locs 0 0 Q (F0 m 20 ls []) := by
        intro k
        induction k with
        | zero =>
          intro j tn H locs ls hk
          exact absurd hk (Nat.not_lt_zero _)
        | succ k ih =>
          intro j tn H locs ls hk hj hz0 hP hD hS hl
          refine lv_iload_n hx hb dX0_refresh_20 rfl (lv_at hl 1 rfl) ?_
          refine lv_sipush (v := 526) hx hb dX0_refresh_21 (by decide) ?_
          refine z_ge (X := ((j : Nat) : Int)) (Y := 526) (tgt := 40) hx hb dX0_refresh_24 (by decide) (nI_toInt (by omega)) (by decide) (fun hc => ?_) (fun hc => ?_)
          · refine lv_iconst (v := 0) hx hb dX0_refresh_40 (by decide) ?_
            refine lv_istore_n (lv' := [(1, .int 0), (0, .ref (g 0))]) hx hb dX0_refresh_41 rfl hl (by decide) rfl (fun ls hl => ?_)
            exact lpB _ 0 tn _ _ _ (Nat.lt_succ_self _) (by omega) (bm_zero (fun k hk => hz0 k (by omega))) hP hD hS (lv_sub hl [1, 0] rfl)
          · refine lv_aload_n hx hb dX0_refresh_27 rfl (lv_at hl 0 rfl) ?_
            refine va_get (D := D) (ci := 0) (v := .ref (g 2)) (C := RX0) (T := TX0) (N := 10) hx hb hts in_X0 hown hK hP 0 rfl rfl 1 (by decide) (hts _ q36) (fun _ h9 => h9) rfl dX0_refresh_28 ?_
            refine lv_iload_n hx hb dX0_refresh_31 rfl (lv_at hl 1 rfl) ?_
            refine lv_iconst (v := 0) hx hb dX0_refresh_32 (by decide) ?_
            refine xast (x := 0) hx hb hK hP hD hS 2 0 rfl rfl (j) (rfl) (by omega) (by decide) dX0_refresh_33 (fun H locs hP hD hS => ?_)
            have hP : va_P D vwCl (wB g d fw (upd tn j 0) fx fl fp ft fk fr 0 1) H := hP
            have hD : va_D A (wB g d fw (upd tn j 0) fx fl fp ft fk fr 0 1) := hD
            refine lv_iinc (v := nI (j + 1)) (lv' := [(1, .int (nI (j + 1))), (0, .ref (g 0))]) hx hb dX0_refresh_34 hl (k := 1) rfl (nI_1 _) (by decide) rfl (fun ls hl => ?_)
            refine lv_goto (tgt := 20) hx hb dX0_refresh_37 (by decide) ?_
            exact ih (j + 1) (upd tn j 0) _ _ _ (by omega) (by omega) (fun k hk => upd_0 hz0 k hk) hP hD hS (lv_sub hl [1, 0] rfl)
      refine lv_iconst (v := 0) hx hb dX0_refresh_18 (by decide) ?_
      refine lv_istore_n (lv' := [(1, .int 0), (0, .ref (g 0))]) hx hb dX0_refresh_19 rfl hl (by decide) rfl (fun ls hl => ?_)
      exact lpA _ 0 fn _ _ _ (Nat.lt_succ_self _) (by omega) (fun k hk => absurd hk (Nat.not_lt_zero _)) hP hD hS (lv_sub hl [1, 0] rfl)
    · omega
  · refine lv_aload_n hx hb dX0_refresh_0 rfl (lv_at hl 0 rfl) ?_
    refine va_get (D := D) (ci := 0) (v := .int 1) (C := RX0) (T := TX0) (N := 10) hx hb hts in_X0 hown hK hP 0 rfl rfl 9 (by decide) (hts _ q44) (fun _ h9 => h9) rfl dX0_refresh_1 ?_
    refine z0_eq (X := 1) (tgt := 8) hx hb dX0_refresh_4 (by decide) (by decide) (fun hc => ?_) (fun hc => ?_)
    · omega
    · exact ret ((fn, fx, fl)) _ _ _ _ dX0_refresh_7 (hL) hP hD hS
end
section
/-! what each call answers, and the weights behind it -/
set_option maxRecDepth 100000
def aSet (w : Nat → Int) (x y : Int32) : Int32 := if 0 ≤ x.toInt ∧ x.toInt < 5 then (if -6 ≤ y.toInt ∧ y.toInt ≤ 6 then iI (w x.toInt.toNat) else -2) else -1
def nSet (w : Nat → Int) (x y : Int32) : Nat → Int := if (0 ≤ x.toInt ∧ x.toInt < 5) ∧ -6 ≤ y.toInt ∧ y.toInt ≤ 6 then (fun k => if k = x.toInt.toNat then y.toInt else w k) else w
def swv (a b i : Nat) : Int := (((a + 5 * i + b * i * i) % 13 : Nat) : Int) - 6
def swk (a b : Nat) : Nat → Int
  | 0 => 0
  | k + 1 => swk a b k + swv a b k
def aSow (x y : Int32) : Int32 := if 0 ≤ x.toInt ∧ x.toInt ≤ 12 then (if 0 ≤ y.toInt ∧ y.toInt ≤ 12 then iI (swk x.toInt.toNat y.toInt.toNat 5) else -2) else -1
def nSow (w : Nat → Int) (x y : Int32) : Nat → Int := if (0 ≤ x.toInt ∧ x.toInt ≤ 12) ∧ 0 ≤ y.toInt ∧ y.toInt ≤ 12 then swv x.toInt.toNat y.toInt.toNat else w
def aWeight (w : Nat → Int) (x : Int32) : Int32 := if 0 ≤ x.toInt ∧ x.toInt < 5 then iI (w x.toInt.toNat) else -100
def aIsBal (w : Nat → Int) (x : Int32) : Int32 := if 0 ≤ x.toInt ∧ x.toInt < 16807 then bI (decide (sm w x.toInt.toNat = 0)) else -1
noncomputable def aIsLeast (w : Nat → Int) (x : Int32) : Int32 := if 0 ≤ x.toInt ∧ x.toInt < 16807 then bI (decide (x.toInt.toNat ∈ LL w)) else -1
noncomputable def aLeast (w : Nat → Int) : Int32 := nI (LL w).length
noncomputable def aCode (w : Nat → Int) (x : Int32) : Int32 := if 0 ≤ x.toInt ∧ x.toInt < ((LL w).length : Int) then nI ((LL w).getD x.toInt.toNat 0) else -1
/-- how many of the first k use the place i -/
def usk (L : List Nat) (i : Nat) : Nat → Nat
  | 0 => 0
  | k + 1 => usk L i k + (if 0 < dg (L.getD k 0) i then 1 else 0)
noncomputable def aUsing (w : Nat → Int) (x : Int32) : Int32 := if 0 ≤ x.toInt ∧ x.toInt < 5 then nI (usk (LL w) x.toInt.toNat (LL w).length) else -1
/-- the greatest size among the first k -/
def lok (L : List Nat) : Nat → Nat
  | 0 => 0
  | k + 1 => max (lok L k) (sz (L.getD k 0))
noncomputable def aLongest (w : Nat → Int) : Int32 := nI (lok (LL w) (LL w).length)
def aBal (w : Nat → Int) (x : Int32) : Int32 := if 0 ≤ x.toInt ∧ x.toInt < 21 then nI (ct w 5 x.toInt.toNat 0) else -1
noncomputable def aFew (w : Nat → Int) (x : Int32) : Int32 := if 0 ≤ x.toInt ∧ x.toInt < 16807 then (if sm w x.toInt.toNat = 0 then nI (fe (LL w) x.toInt.toNat) else -2) else -1
noncomputable def aWays (w : Nat → Int) (x : Int32) : Int32 := if 0 ≤ x.toInt ∧ x.toInt < 16807 then (if sm w x.toInt.toNat = 0 then nI (wy (LL w) x.toInt.toNat) else -2) else -1
def insd (L : List Nat) (c : Nat) : Int32 := match L.find? (fun a => pt a c) with
  | some a => nI a
  | none => -2
noncomputable def aIns (w : Nat → Int) (x : Int32) : Int32 := if 0 ≤ x.toInt ∧ x.toInt < 16807 then insd (LL w) x.toInt.toNat else -1
def aSmall (w : Nat → Int) : Int32 := nI (smc w 16807)
theorem of_range {x : Int32} {N : Nat} (h : 0 ≤ x.toInt ∧ x.toInt < (N : Int)) : ∃ c, c < N ∧ x = nI c := by
  refine ⟨x.toInt.toNat, by omega, ?_⟩
  rw [nI_iI, Int.toNat_of_nonneg h.1, iI_of]
theorem nI_toNat {c : Nat} (h : c < 2147483648) : (nI c).toInt.toNat = c := by
  rw [nI_toInt (by omega)]
  exact Int.toNat_natCast c
theorem insd_here {L : List Nat} {i c : Nat} (h : i < L.length) (ht : hp (L.take i) c = false) (hc : pt (L.getD i 0) c = true) : insd L c = nI (L.getD i 0) := by
  unfold insd
  have e : L = L.take i ++ (L.getD i 0 :: L.drop (i + 1)) := by
    have h1 : L.drop i = L.getD i 0 :: L.drop (i + 1) := by
      rw [List.drop_eq_getElem_cons h, List.getD_eq_getElem?_getD, List.getElem?_eq_getElem h]
      rfl
    rw [← h1, List.take_append_drop]
  have h2 : (L.take i).find? (fun a => pt a c) = none := by
    rw [List.find?_eq_none]
    intro a ha q
    rw [hp_iff.mpr ⟨a, ha, q⟩] at ht
    cases ht
  have h3 : L.find? (fun a => pt a c) = some (L.getD i 0) := by
    generalize hv : L.getD i 0 = v at *
    rw [e, List.find?_append, h2, List.find?_cons_of_pos (p := fun a => pt a c) hc]
    rfl
  rw [h3]
theorem insd_none {L : List Nat} {c : Nat} (ht : hp L c = false) : insd L c = -2 := by
  unfold insd
  have h2 : L.find? (fun a => pt a c) = none := by
    rw [List.find?_eq_none]
    intro a ha q
    rw [hp_iff.mpr ⟨a, ha, q⟩] at ht
    cases ht
  rw [h2]
theorem okw_set {w : Nat → Int} {x y : Int32} (h : okw w) : okw (nSet w x y) := by
  unfold nSet
  split
  · rename_i q
    intro i hi
    show -6 ≤ (if i = x.toInt.toNat then y.toInt else w i) ∧ (if i = x.toInt.toNat then y.toInt else w i) ≤ 6
    split
    · exact q.2
    · exact h i hi
  · exact h
theorem swv_b (a b i : Nat) : -6 ≤ swv a b i ∧ swv a b i ≤ 6 := by
  unfold swv
  omega
theorem okw_sow {w : Nat → Int} {x y : Int32} (h : okw w) : okw (nSow w x y) := by
  unfold nSow
  split
  · intro i _
    exact swv_b _ _ _
  · exact h
/-- the class's state: weights, now, next, list, powers, table, picked, rest, count, current -/
abbrev SB : Type := (Nat → Int32) × (Nat → Int32) × (Nat → Int32) × (Nat → Int32) × (Nat → Int32) × (Nat → Int32) × (Nat → Int32) × (Nat → Int32) × Int32 × Int32
abbrev wSB (g : Nat → Nat) (d : ClassId) (u : SB) : va_W := wB g d u.1 u.2.1 u.2.2.1 u.2.2.2.1 u.2.2.2.2.1 u.2.2.2.2.2.1 u.2.2.2.2.2.2.1 u.2.2.2.2.2.2.2.1 u.2.2.2.2.2.2.2.2.1 u.2.2.2.2.2.2.2.2.2
/-- the class holds the weights w; what it remembers is right -/
def InvB (w : Nat → Int) (u : SB) : Prop := okw w ∧ hww u.1 w ∧ okp u.2.2.2.2.1 ∧ (u.2.2.2.2.2.2.2.2.2 = 0 ∨ (u.2.2.2.2.2.2.2.2.2 = 1 ∧ hli u.2.2.2.1 (LL w) ∧ u.2.2.2.2.2.2.2.2.1 = nI (LL w).length))
/-- the reference's state: weights, codes, many, few, ready, count, balances -/
abbrev SM : Type := (Nat → Int32) × (Nat → Int32) × (Nat → Int32) × (Nat → Int32) × Int32 × Int32 × Int32
abbrev wSM (g : Nat → Nat) (d : ClassId) (u : SM) : va_W := wM g d u.1 u.2.1 u.2.2.1 u.2.2.2.1 u.2.2.2.2.1 u.2.2.2.2.2.1 u.2.2.2.2.2.2
def InvM (w : Nat → Int) (u : SM) : Prop := okw w ∧ hww u.1 w ∧ (u.2.2.2.2.1 = 0 ∨ (u.2.2.2.2.1 = 1 ∧ hli u.2.1 (LL w) ∧ u.2.2.2.2.2.1 = nI (LL w).length ∧ u.2.2.2.2.2.2 = nI (smc w 16807)))
theorem hww_set {f : Nat → Int32} {w : Nat → Int} {i : Nat} {y : Int32} (h : hww f w) (hi : i < 5) (hy : -6 ≤ y.toInt ∧ y.toInt ≤ 6) : hww (upd f i y) (nSet w (nI i) y) := by
  have e : nSet w (nI i) y = fun k => if k = i then y.toInt else w k := by
    unfold nSet
    rw [nI_toNat (by omega), nI_toInt (by omega), if_pos ⟨by omega, hy⟩]
  rw [e]
  intro k hk
  show upd f i y k = iI (if k = i then y.toInt else w k)
  by_cases q : k = i
  · subst q
    rw [pk_us, if_pos rfl, iI_of]
  · rw [pk_un q, if_neg q]
    exact h k hk
theorem LL_lt (w : Nat → Int) : ∀ a, a ∈ LL w → a < 16807 := fun a ha => (mem_LL.mp ha).2.1
end
section
/-! addUnit, take -/
def au (t : Nat → Int32) (a : Int) (n k : Nat) : Int32 := if 241 * n ≤ k ∧ k < 241 * n + 241 ∧ 0 ≤ (k : Int) - 241 * n - a ∧ (k : Int) - 241 * n - a ≤ 240 then t k + t ((k : Int) - 241 - a).toNat else t k
theorem au_no {t tt : Nat → Int32} {a : Int} {n j : Nat} (hT : ∀ k, tt k = if k < 241 * n + j then au t a n k else t k) (h : ¬ (0 ≤ (j : Int) - a ∧ (j : Int) - a ≤ 240)) : ∀ k, tt k = if k < 241 * n + (j + 1) then au t a n k else t k := by
  intro k
  rw [hT k]
  rcases Nat.lt_trichotomy k (241 * n + j) with q | q | q
  · rw [if_pos q, if_pos (by omega)]
  · rw [if_neg (by omega), if_pos (by omega)]
    unfold au
    rw [if_neg (by omega)]
  · rw [if_neg (by omega), if_neg (by omega)]
theorem au_yes {t tt : Nat → Int32} {a : Int} {n j q : Nat} (hT : ∀ k, tt k = if k < 241 * n + j then au t a n k else t k) (hj : j ≤ 240) (h : 0 ≤ (j : Int) - a ∧ (j : Int) - a ≤ 240) (hn : 1 ≤ n) (hq : q = (((241 * n + j : Nat) : Int) - 241 - a).toNat) : ∀ k, upd tt (241 * n + j) (tt (241 * n + j) + tt q) k = if k < 241 * n + (j + 1) then au t a n k else t k := by
  intro k
  rcases Nat.lt_trichotomy k (241 * n + j) with r | r | r
  · rw [pk_un (by omega), hT k, if_pos r, if_pos (by omega)]
  · subst r
    rw [pk_us, hT (241 * n + j), hT q, if_neg (by omega), if_pos (by omega), if_pos (by omega)]
    have e1 : au t a n q = t q := by
      unfold au
      rw [if_neg (by omega)]
    rw [e1]
    unfold au
    rw [if_pos (by omega), hq]
  · rw [pk_un (by omega), hT k, if_neg (by omega), if_neg (by omega)]
theorem au_end {t tt : Nat → Int32} {a : Int} {n j : Nat} (hT : ∀ k, tt k = if k < 241 * n + j then au t a n k else t k) (h : 241 ≤ j) (k : Nat) (_ : k < 5061) : tt k = au t a n k := by
  rw [hT k]
  by_cases q : k < 241 * n + j
  · rw [if_pos q]
  · rw [if_neg q]
    unfold au
    rw [if_neg (by omega)]
theorem au_start (t : Nat → Int32) (a : Int) (n k : Nat) : t k = if k < 241 * n + 0 then au t a n k else t k := by
  by_cases q : k < 241 * n + 0
  · rw [if_pos q]
    unfold au
    rw [if_neg (by omega)]
  · rw [if_neg q]
theorem drop_getD {L : List Nat} {k : Nat} (h : k < L.length) : L.drop k = L.getD k 0 :: L.drop (k + 1) := by
  rw [List.drop_eq_getElem_cons h, List.getD_eq_getElem?_getD, List.getElem?_eq_getElem h]
  rfl
theorem okl_drop {L : List Nat} (h : okl L) (k : Nat) : okl (L.drop k) := fun a ha => h a (List.mem_of_mem_drop ha)
abbrev rX0_addUnit : Room := { frames := 0, cells := 0, slots := 0, locals := 0 }
set_option maxHeartbeats 4000000 in
set_option maxRecDepth 100000 in
theorem metX0_addUnit {l : Launch} {D : va_G} {d : ClassId} {g : Nat → Nat} {fw fn fx fl fp ft fk fr : Nat → Int32} {cnt cur : Int32} {hz : Nat} {i n : Nat} {w : Nat → Int} (hw : hww fw w) (ho : okw w) (hi : i < 5) (h1 : 1 ≤ n) (h20 : n ≤ 20) : mVO l yX0_addUnit cX0_addUnit 5 rX0_addUnit [.ref (g 0), .int (nI i), .int (nI n)] D d (wB g d fw fn fx fl fp ft fk fr cnt cur) hz (S := Nat → Int32) (fun u => ∀ k, k < 5061 → u k = au ft (w i) n k) (fun u => wB g d fw fn fx fl fp u fk fr cnt cur) := by
  refine mVO.ofW (by decide) (Nat.le_of_ble_eq_true rfl) ?_
  intro p e s m args below meth mc Q A ls S hP hK hA hS hl hD ret
  have S : CallFix p m mc cX0_addUnit 5 s args lw_all RX0 := S
  have hx := S.1
  have hb := S.2.1
  have hown := S.2.2.2.1
  have hts := S.2.2.2.2
  have hl : lv_has ls 5 [(0, .ref (g 0)), (1, .int (nI i)), (2, .int (nI n))] := hl
  have hwi := ho i hi
  have lp : ∀ (k : Nat) (j : Nat) (tt : Nat → Int32) (H : Heap) (locs : List Loc) (ls : Array Slot), 241 - j < k → j ≤ 241 → (∀ k, tt k = if k < 241 * n + j then au ft (w i) n k else ft k) → va_P D vwCl (wB g d fw fn fx fl fp tt fk fr cnt cur) H → va_D A (wB g d fw fn fx fl fp tt fk fr cnt cur) → va_S A s.heap H locs → lv_has ls 5 [(0, .ref (g 0)), (1, .int (nI i)), (2, .int (nI n)), (3, .int (iI ((j : Int) - 120)))] → W p l e rX0_addUnit s m args below meth mc H locs 0 0 Q (F0 m 3 ls []) := by
    intro k
    induction k with
    | zero =>
      intro j tt H locs ls hk
      exact absurd hk (Nat.not_lt_zero _)
    | succ k ih =>
      intro j tt H locs ls hk hj hT hP hD hS hl
      refine lv_iload_n hx hb dX0_addUnit_3 rfl (lv_at hl 3 rfl) ?_
      refine lv_bipush (v := 120) hx hb dX0_addUnit_4 (by decide) ?_
      refine z_gt (X := ((j : Int) - 120)) (Y := 120) (tgt := 75) hx hb dX0_addUnit_6 (by decide) (iI_toInt (by omega) (by omega)) (by decide) (fun hc => ?_) (fun hc => ?_)
      · exact ret (tt) _ _ _ _ dX0_addUnit_75 (au_end hT (by omega)) hP hD hS
      · have jn : ∀ (t2 : Nat → Int32) (H : Heap) (locs : List Loc) (ls : Array Slot), (∀ k, t2 k = if k < 241 * n + (j + 1) then au ft (w i) n k else ft k) → va_P D vwCl (wB g d fw fn fx fl fp t2 fk fr cnt cur) H → va_D A (wB g d fw fn fx fl fp t2 fk fr cnt cur) → va_S A s.heap H locs → lv_has ls 5 [(0, .ref (g 0)), (1, .int (nI i)), (2, .int (nI n)), (3, .int (iI ((j : Int) - 120)))] → W p l e rX0_addUnit s m args below meth mc H locs 0 0 Q (F0 m 69 ls []) := by
          intro t2 H locs ls hT2 hP hD hS hl
          refine lv_iinc (v := iI (((j + 1 : Nat) : Int) - 120)) (lv' := [(3, .int (iI (((j + 1 : Nat) : Int) - 120))), (0, .ref (g 0)), (1, .int (nI i)), (2, .int (nI n))]) hx hb dX0_addUnit_69 hl (k := 3) rfl (by rw [show Int32.ofInt 1 = iI 1 from rfl, iI_add]; congr 1; omega) (by decide) rfl (fun ls hl => ?_)
          refine lv_goto (tgt := 3) hx hb dX0_addUnit_72 (by decide) ?_
          exact ih (j + 1) t2 _ _ _ (by omega) (by omega) hT2 hP hD hS (lv_sub hl [1, 2, 3, 0] rfl)
        refine lv_iload_n hx hb dX0_addUnit_9 rfl (lv_at hl 3 rfl) ?_
        refine lv_aload_n hx hb dX0_addUnit_10 rfl (lv_at hl 0 rfl) ?_
        refine va_get (D := D) (ci := 0) (v := .ref (g 1)) (C := RX0) (T := TX0) (N := 10) hx hb hts in_X0 hown hK hP 0 rfl rfl 0 (by decide) (hts _ q35) (fun _ h9 => h9) rfl dX0_addUnit_11 ?_
        refine lv_iload_n hx hb dX0_addUnit_14 rfl (lv_at hl 1 rfl) ?_
        refine xald hx hb hK hP 1 0 rfl rfl (i) (rfl) (hi) (by decide) dX0_addUnit_15 ?_
        refine tpi (y := iI (w i)) (hw i hi) ?_
        refine lv_isub hx hb dX0_addUnit_16 ?_
        refine tpi (y := iI ((j : Int) - 120 - w i)) (iI_sub _ _) ?_
        refine lv_istore (lv' := [(4, .int (iI ((j : Int) - 120 - w i))), (0, .ref (g 0)), (1, .int (nI i)), (2, .int (nI n)), (3, .int (iI ((j : Int) - 120)))]) hx hb dX0_addUnit_17 hl (by decide) rfl (fun ls hl => ?_)
        refine lv_iload hx hb dX0_addUnit_19 (lv_at hl 0 rfl) ?_
        refine lv_bipush (v := -120) hx hb dX0_addUnit_21 (by decide) ?_
        refine z_lt (X := ((j : Int) - 120 - w i)) (Y := (-120)) (tgt := 69) hx hb dX0_addUnit_23 (by decide) (iI_toInt (by omega) (by omega)) (by decide) (fun hc2 => ?_) (fun hc2 => ?_)
        · exact jn tt _ _ _ (au_no hT (by omega)) hP hD hS (lv_sub hl [1, 2, 3, 4] rfl)
        · refine lv_iload hx hb dX0_addUnit_26 (lv_at hl 0 rfl) ?_
          refine lv_bipush (v := 120) hx hb dX0_addUnit_28 (by decide) ?_
          refine z_gt (X := ((j : Int) - 120 - w i)) (Y := 120) (tgt := 69) hx hb dX0_addUnit_30 (by decide) (iI_toInt (by omega) (by omega)) (by decide) (fun hc3 => ?_) (fun hc3 => ?_)
          · exact jn tt _ _ _ (au_no hT (by omega)) hP hD hS (lv_sub hl [1, 2, 3, 4] rfl)
          · refine lv_aload_n hx hb dX0_addUnit_33 rfl (lv_at hl 1 rfl) ?_
            refine va_get (D := D) (ci := 0) (v := .ref (g 6)) (C := RX0) (T := TX0) (N := 10) hx hb hts in_X0 hown hK hP 0 rfl rfl 5 (by decide) (hts _ q40) (fun _ h9 => h9) rfl dX0_addUnit_34 ?_
            refine lv_sipush (v := 241) hx hb dX0_addUnit_37 (by decide) ?_
            refine lv_iload_n hx hb dX0_addUnit_40 rfl (lv_at hl 3 rfl) ?_
            refine lv_imul hx hb dX0_addUnit_41 ?_
            refine tpi (y := nI (241 * n)) (pk_mul 241 n) ?_
            refine lv_bipush (v := 120) hx hb dX0_addUnit_42 (by decide) ?_
            refine lv_iadd hx hb dX0_addUnit_44 ?_
            refine tpi (y := nI (241 * n + 120)) (nI_add _ 120) ?_
            refine lv_iload_n hx hb dX0_addUnit_45 rfl (lv_at hl 4 rfl) ?_
            refine lv_iadd hx hb dX0_addUnit_46 ?_
            refine tpi (y := nI (241 * n + j)) (by rw [nI_iI, iI_add, nI_iI]; congr 1; omega) ?_
            refine lv_dup2_11 hx hb dX0_addUnit_47 rfl rfl ?_
            refine xald hx hb hK hP 6 0 rfl rfl (241 * n + j) (rfl) (by omega) (by decide) dX0_addUnit_48 ?_
            refine lv_aload_n hx hb dX0_addUnit_49 rfl (lv_at hl 1 rfl) ?_
            refine va_get (D := D) (ci := 0) (v := .ref (g 6)) (C := RX0) (T := TX0) (N := 10) hx hb hts in_X0 hown hK hP 0 rfl rfl 5 (by decide) (hts _ q40) (fun _ h9 => h9) rfl dX0_addUnit_50 ?_
            refine lv_sipush (v := 241) hx hb dX0_addUnit_53 (by decide) ?_
            refine lv_iload_n hx hb dX0_addUnit_56 rfl (lv_at hl 3 rfl) ?_
            refine lv_iconst (v := 1) hx hb dX0_addUnit_57 (by decide) ?_
            refine lv_isub hx hb dX0_addUnit_58 ?_
            refine tpi (y := nI (n - 1)) (pk_sub (b := 1) (by omega)) ?_
            refine lv_imul hx hb dX0_addUnit_59 ?_
            refine tpi (y := nI (241 * (n - 1))) (pk_mul 241 _) ?_
            refine lv_bipush (v := 120) hx hb dX0_addUnit_60 (by decide) ?_
            refine lv_iadd hx hb dX0_addUnit_62 ?_
            refine tpi (y := nI (241 * (n - 1) + 120)) (nI_add _ 120) ?_
            refine lv_iload hx hb dX0_addUnit_63 (lv_at hl 0 rfl) ?_
            refine lv_iadd hx hb dX0_addUnit_65 ?_
            refine tpi (y := nI (((241 * n + j : Nat) : Int) - 241 - w i).toNat) (by rw [nI_iI, iI_add, nI_iI]; congr 1; omega) ?_
            refine xald hx hb hK hP 6 0 rfl rfl ((((241 * n + j : Nat) : Int) - 241 - w i).toNat) (rfl) (by omega) (by decide) dX0_addUnit_66 ?_
            refine lv_iadd hx hb dX0_addUnit_67 ?_
            refine tpi (y := tt (241 * n + j) + tt (((241 * n + j : Nat) : Int) - 241 - w i).toNat) (rfl) ?_
            refine xast (x := tt (241 * n + j) + tt (((241 * n + j : Nat) : Int) - 241 - w i).toNat) hx hb hK hP hD hS 6 0 rfl rfl (241 * n + j) (rfl) (by omega) (by decide) dX0_addUnit_68 (fun H locs hP hD hS => ?_)
            have hP : va_P D vwCl (wB g d fw fn fx fl fp (upd tt (241 * n + j) (tt (241 * n + j) + tt (((241 * n + j : Nat) : Int) - 241 - w i).toNat)) fk fr cnt cur) H := hP
            have hD : va_D A (wB g d fw fn fx fl fp (upd tt (241 * n + j) (tt (241 * n + j) + tt (((241 * n + j : Nat) : Int) - 241 - w i).toNat)) fk fr cnt cur) := hD
            exact jn (upd tt (241 * n + j) (tt (241 * n + j) + tt (((241 * n + j : Nat) : Int) - 241 - w i).toNat)) _ _ _ (au_yes hT (by omega) (by omega) h1 rfl) hP hD hS (lv_sub hl [1, 2, 3, 4] rfl)
  refine lv_bipush (v := -120) hx hb dX0_addUnit_0 (by decide) ?_
  refine tpi (y := iI (((0 : Nat) : Int) - 120)) (rfl) ?_
  refine lv_istore_n (lv' := [(3, .int (iI (((0 : Nat) : Int) - 120))), (0, .ref (g 0)), (1, .int (nI i)), (2, .int (nI n))]) hx hb dX0_addUnit_2 rfl hl (by decide) rfl (fun ls hl => ?_)
  exact lp _ 0 ft _ _ _ (Nat.lt_succ_self _) (by omega) (au_start ft (w i) n) hP hD hS (lv_sub hl [1, 2, 3, 0] rfl)
abbrev rX0_take : Room := { frames := 2, cells := 0, slots := 0, locals := 46 }
set_option maxHeartbeats 4000000 in
set_option maxRecDepth 100000 in
theorem metX0_take {l : Launch} {D : va_G} {d : ClassId} {g : Nat → Nat} {fw fn fx fl fp ft fk fr : Nat → Int32} {cnt cur : Int32} {hz : Nat} {c : Nat} {b : Bool} {L : List Nat} (hq : okp fp) (hL : hli fl L) (hn : cnt = nI L.length) (hlen : L.length ≤ 400) (hm : ∀ a, a ∈ L → a < 16807) (hk0 : okl L) (hc0 : c < 16807) : mIO l yX0_take cX0_take 8 .int rX0_take [.ref (g 0), .int (nI c), .int (bI b)] D d (wB g d fw fn fx fl fp ft fk fr cnt cur) hz (S := (Nat → Int32) × (Nat → Int32)) (fun r _ => r = if b = true then nI (min 31 (fe L c)) else nI (wy L c)) (fun u => wB g d fw fn fx fl fp ft u.1 u.2 cnt cur) := by
  refine mIO.ofW (by decide) (Nat.le_of_ble_eq_true rfl) ?_
  intro p e s m args below meth mc Q A ls S hP hK hA hS hl hD ret
  have S : CallFix p m mc cX0_take 8 s args lw_all RX0 := S
  have hx := S.1
  have hb := S.2.1
  have hown := S.2.2.2.1
  have hts := S.2.2.2.2
  have hl : lv_has ls 8 [(0, .ref (g 0)), (1, .int (nI c)), (2, .int (bI b))] := hl
  subst hn
  have lp : ∀ (k : Nat) (n h r f y : Nat) (tk tr : Nat → Int32) (H : Heap) (locs : List Loc) (ls : Array Slot), sz r * 1000 + (L.length - h) < k → sz r + n ≤ 30 → 0 < r → r < 16807 → h ≤ L.length → y ≤ 31 → tk n = nI h → tr n = nI r → (∀ (tk9 tr9 : Nat → Int32) (H : Heap) (locs : List Loc) (ls : Array Slot), (∀ i, i < n → tk9 i = tk i ∧ tr9 i = tr i) → va_P D vwCl (wB g d fw fn fx fl fp ft tk9 tr9 (nI L.length) cur) H → va_D A (wB g d fw fn fx fl fp ft tk9 tr9 (nI L.length) cur) → va_S A s.heap H locs → lv_has ls 8 [(0, .ref (g 0)), (1, .int (nI c)), (2, .int (bI b)), (3, .int (iI ((n : Int) - 1))), (4, .int (nI (f + wy (L.drop h) r))), (5, .int (nI (min y (n + fe (L.drop h) r))))] → W p l e rX0_take s m args below meth mc H locs 0 0 Q (F0 m 37 ls [])) → va_P D vwCl (wB g d fw fn fx fl fp ft tk tr (nI L.length) cur) H → va_D A (wB g d fw fn fx fl fp ft tk tr (nI L.length) cur) → va_S A s.heap H locs → lv_has ls 8 [(0, .ref (g 0)), (1, .int (nI c)), (2, .int (bI b)), (3, .int (nI n)), (4, .int (nI (f))), (5, .int (nI (y)))] → W p l e rX0_take s m args below meth mc H locs 0 0 Q (F0 m 37 ls []) := by
    intro k
    induction k with
    | zero =>
      intro n h r f y tk tr H locs ls hk
      exact absurd hk (Nat.not_lt_zero _)
    | succ k ih =>
      intro n h r f y tk tr H locs ls hk hn1 hr0 hr1 hh hy htk htr ct hP hD hS hl
      have hs0 := sz_pos hr1 hr0
      refine lv_iload_n hx hb dX0_take_37 rfl (lv_at hl 3 rfl) ?_
      refine z0_lt (X := ((n : Nat) : Int)) (tgt := 161) hx hb dX0_take_38 (by decide) (nI_toInt (by omega)) (fun hc5 => ?_) (fun hc5 => ?_)
      · omega
      · refine lv_aload_n hx hb dX0_take_41 rfl (lv_at hl 0 rfl) ?_
        refine va_get (D := D) (ci := 0) (v := .ref (g 7)) (C := RX0) (T := TX0) (N := 10) hx hb hts in_X0 hown hK hP 0 rfl rfl 6 (by decide) (hts _ q41) (fun _ h9 => h9) rfl dX0_take_42 ?_
        refine lv_iload_n hx hb dX0_take_45 rfl (lv_at hl 3 rfl) ?_
        refine xald hx hb hK hP 7 0 rfl rfl (n) (rfl) (by omega) (by decide) dX0_take_46 ?_
        refine tpi (y := nI h) (htk) ?_
        refine lv_istore (lv' := [(6, .int (nI h)), (0, .ref (g 0)), (1, .int (nI c)), (2, .int (bI b)), (3, .int (nI n)), (4, .int (nI (f))), (5, .int (nI (y)))]) hx hb dX0_take_47 hl (by decide) rfl (fun ls hl => ?_)
        refine lv_iload hx hb dX0_take_49 (lv_at hl 0 rfl) ?_
        refine lv_aload_n hx hb dX0_take_51 rfl (lv_at hl 1 rfl) ?_
        refine va_get (D := D) (ci := 0) (v := .int (nI L.length)) (C := RX0) (T := TX0) (N := 10) hx hb hts in_X0 hown hK hP 0 rfl rfl 8 (by decide) (hts _ q43) (fun _ h9 => h9) rfl dX0_take_52 ?_
        refine z_ne (X := ((h : Nat) : Int)) (Y := ((L.length : Nat) : Int)) (tgt := 64) hx hb dX0_take_55 (by decide) (nI_toInt (by omega)) (nI_toInt (by omega)) (fun hc => ?_) (fun hc => ?_)
        · have hh2 : h < L.length := by omega
          have hg : L.getD h 0 ∈ L := getD_mem hh2
          obtain ⟨a, ha⟩ : ∃ a, a = L.getD h 0 := ⟨_, rfl⟩
          rw [← ha] at hg
          have hla := hL h hh2
          rw [← ha] at hla
          obtain ⟨a0, a1⟩ := hk0 a hg
          have hdr : L.drop h = a :: L.drop (h + 1) := by rw [ha]; exact drop_getD hh2
          refine lv_aload_n hx hb dX0_take_64 rfl (lv_at hl 1 rfl) ?_
          refine va_get (D := D) (ci := 0) (v := .ref (g 7)) (C := RX0) (T := TX0) (N := 10) hx hb hts in_X0 hown hK hP 0 rfl rfl 6 (by decide) (hts _ q41) (fun _ h9 => h9) rfl dX0_take_65 ?_
          refine lv_iload_n hx hb dX0_take_68 rfl (lv_at hl 4 rfl) ?_
          refine lv_dup2_11 hx hb dX0_take_69 rfl rfl ?_
          refine xald hx hb hK hP 7 0 rfl rfl (n) (rfl) (by omega) (by decide) dX0_take_70 ?_
          refine tpi (y := nI h) (htk) ?_
          refine lv_iconst (v := 1) hx hb dX0_take_71 (by decide) ?_
          refine lv_iadd hx hb dX0_take_72 ?_
          refine tpi (y := nI (h + 1)) (nI_1 _) ?_
          refine xast (x := nI (h + 1)) hx hb hK hP hD hS 7 0 rfl rfl (n) (rfl) (by omega) (by decide) dX0_take_73 (fun H locs hP hD hS => ?_)
          have hP : va_P D vwCl (wB g d fw fn fx fl fp ft (upd tk n (nI (h + 1))) tr (nI L.length) cur) H := hP
          have hD : va_D A (wB g d fw fn fx fl fp ft (upd tk n (nI (h + 1))) tr (nI L.length) cur) := hD
          refine lv_aload_n hx hb dX0_take_74 rfl (lv_at hl 1 rfl) ?_
          refine lv_aload_n hx hb dX0_take_75 rfl (lv_at hl 1 rfl) ?_
          refine va_get (D := D) (ci := 0) (v := .ref (g 4)) (C := RX0) (T := TX0) (N := 10) hx hb hts in_X0 hown hK hP 0 rfl rfl 3 (by decide) (hts _ q38) (fun _ h9 => h9) rfl dX0_take_76 ?_
          refine lv_iload hx hb dX0_take_79 (lv_at hl 0 rfl) ?_
          refine xald hx hb hK hP 4 0 rfl rfl (h) (rfl) (by omega) (by decide) dX0_take_81 ?_
          refine tpi (y := nI a) (hla) ?_
          refine lv_aload_n hx hb dX0_take_82 rfl (lv_at hl 1 rfl) ?_
          refine va_get (D := D) (ci := 0) (v := .ref (g 8)) (C := RX0) (T := TX0) (N := 10) hx hb hts in_X0 hown hK hP 0 rfl rfl 7 (by decide) (hts _ q42) (fun _ h9 => h9) rfl dX0_take_83 ?_
          refine lv_iload_n hx hb dX0_take_86 rfl (lv_at hl 4 rfl) ?_
          refine xald hx hb hK hP 8 0 rfl rfl (n) (rfl) (by omega) (by decide) dX0_take_87 ?_
          refine tpi (y := nI r) (htr) ?_
          refine cRO (As := [.int (nI a), .int (nI r)]) (rest := []) S (metX0_isPart (a := a) (b := r) hq (by omega) (by omega)) (cwV 2 hts (lw_V q113 q115 qs5 q25 q116) rfl rfl rfl (by decide +kernel) ⟨Nat.le_of_ble_eq_true rfl, Nat.le_of_ble_eq_true rfl⟩) hK hP hS hA rfl rfl rfl hl.1 rfl (Nat.le_of_ble_eq_true rfl) dX0_take_88 ⟨Nat.zero_le _, Nat.zero_le _⟩ (fun r9 H locs hr hP hS => ?_)
          obtain rfl : r9 = bI (pt a r) := hr
          refine b_eq (b := pt a r) (tgt := 158) hx hb dX0_take_91 (by decide) (fun hpt => ?_) (fun hpt => ?_)
          · have e1 : wy (L.drop h) r = wy (L.drop (h + 1)) r := by rw [hdr]; exact wy_neg a0 a1 hr1 (by rw [hpt]; decide)
            have e2 : fe (L.drop h) r = fe (L.drop (h + 1)) r := by rw [hdr]; exact fe_neg a0 a1 hr1 (by rw [hpt]; decide)
            refine lv_goto (tgt := 37) hx hb dX0_take_158 (by decide) ?_
            exact ih n (h + 1) r f y (upd tk n (nI (h + 1))) tr _ _ _ (by omega) hn1 hr0 hr1 (by omega) hy pk_us htr (fun tk9 tr9 H locs ls hag hP hD hS hl => ct tk9 tr9 H locs ls (fun i hi => ⟨(hag i hi).1.trans (pk_un (by omega)), (hag i hi).2⟩) hP hD hS (by rw [e1, e2]; exact hl)) hP hD hS (lv_sub hl [1, 2, 3, 4, 5, 6] rfl)
          · have hle := pt_le a1 hr1 hpt
            have hss := sz_sub a1 hr1 hpt
            have hsa := sz_pos a1 a0
            have e1 : wy (L.drop h) r = wy (L.drop (h + 1)) r + wy (L.drop h) (r - a) := by rw [hdr]; exact wy_pos a0 a1 hr1 hpt
            have e2 : fe (L.drop h) r = min (fe (L.drop (h + 1)) r) (fe (L.drop h) (r - a) + 1) := by rw [hdr]; exact fe_pos a0 a1 hr1 hpt
            refine lv_aload_n hx hb dX0_take_94 rfl (lv_at hl 1 rfl) ?_
            refine va_get (D := D) (ci := 0) (v := .ref (g 8)) (C := RX0) (T := TX0) (N := 10) hx hb hts in_X0 hown hK hP 0 rfl rfl 7 (by decide) (hts _ q42) (fun _ h9 => h9) rfl dX0_take_95 ?_
            refine lv_iload_n hx hb dX0_take_98 rfl (lv_at hl 4 rfl) ?_
            refine xald hx hb hK hP 8 0 rfl rfl (n) (rfl) (by omega) (by decide) dX0_take_99 ?_
            refine tpi (y := nI r) (htr) ?_
            refine lv_aload_n hx hb dX0_take_100 rfl (lv_at hl 1 rfl) ?_
            refine va_get (D := D) (ci := 0) (v := .ref (g 4)) (C := RX0) (T := TX0) (N := 10) hx hb hts in_X0 hown hK hP 0 rfl rfl 3 (by decide) (hts _ q38) (fun _ h9 => h9) rfl dX0_take_101 ?_
            refine lv_iload hx hb dX0_take_104 (lv_at hl 0 rfl) ?_
            refine xald hx hb hK hP 4 0 rfl rfl (h) (rfl) (by omega) (by decide) dX0_take_106 ?_
            refine tpi (y := nI a) (hla) ?_
            refine lv_isub hx hb dX0_take_107 ?_
            refine tpi (y := nI (r - a)) (pk_sub hle) ?_
            refine lv_istore (lv' := [(7, .int (nI (r - a))), (6, .int (nI h)), (0, .ref (g 0)), (1, .int (nI c)), (2, .int (bI b)), (3, .int (nI n)), (4, .int (nI (f))), (5, .int (nI (y)))]) hx hb dX0_take_108 hl (by decide) rfl (fun ls hl => ?_)
            refine lv_iload hx hb dX0_take_110 (lv_at hl 0 rfl) ?_
            refine z0_ne (X := ((r - a : Nat) : Int)) (tgt := 139) hx hb dX0_take_112 (by decide) (nI_toInt (by omega)) (fun hc6 => ?_) (fun hc6 => ?_)
            · refine lv_iinc (v := nI (n + 1)) (lv' := [(3, .int (nI (n + 1))), (7, .int (nI (r - a))), (6, .int (nI h)), (0, .ref (g 0)), (1, .int (nI c)), (2, .int (bI b)), (4, .int (nI (f))), (5, .int (nI (y)))]) hx hb dX0_take_139 hl (k := 5) rfl (nI_1 _) (by decide) rfl (fun ls hl => ?_)
              refine lv_aload_n hx hb dX0_take_142 rfl (lv_at hl 3 rfl) ?_
              refine va_get (D := D) (ci := 0) (v := .ref (g 8)) (C := RX0) (T := TX0) (N := 10) hx hb hts in_X0 hown hK hP 0 rfl rfl 7 (by decide) (hts _ q42) (fun _ h9 => h9) rfl dX0_take_143 ?_
              refine lv_iload_n hx hb dX0_take_146 rfl (lv_at hl 0 rfl) ?_
              refine lv_iload hx hb dX0_take_147 (lv_at hl 1 rfl) ?_
              refine xast (x := nI (r - a)) hx hb hK hP hD hS 8 0 rfl rfl (n + 1) (rfl) (by omega) (by decide) dX0_take_149 (fun H locs hP hD hS => ?_)
              have hP : va_P D vwCl (wB g d fw fn fx fl fp ft (upd tk n (nI (h + 1))) (upd tr (n + 1) (nI (r - a))) (nI L.length) cur) H := hP
              have hD : va_D A (wB g d fw fn fx fl fp ft (upd tk n (nI (h + 1))) (upd tr (n + 1) (nI (r - a))) (nI L.length) cur) := hD
              refine lv_aload_n hx hb dX0_take_150 rfl (lv_at hl 3 rfl) ?_
              refine va_get (D := D) (ci := 0) (v := .ref (g 7)) (C := RX0) (T := TX0) (N := 10) hx hb hts in_X0 hown hK hP 0 rfl rfl 6 (by decide) (hts _ q41) (fun _ h9 => h9) rfl dX0_take_151 ?_
              refine lv_iload_n hx hb dX0_take_154 rfl (lv_at hl 0 rfl) ?_
              refine lv_iload hx hb dX0_take_155 (lv_at hl 2 rfl) ?_
              refine xast (x := nI h) hx hb hK hP hD hS 7 0 rfl rfl (n + 1) (rfl) (by omega) (by decide) dX0_take_157 (fun H locs hP hD hS => ?_)
              have hP : va_P D vwCl (wB g d fw fn fx fl fp ft (upd (upd tk n (nI (h + 1))) (n + 1) (nI h)) (upd tr (n + 1) (nI (r - a))) (nI L.length) cur) H := hP
              have hD : va_D A (wB g d fw fn fx fl fp ft (upd (upd tk n (nI (h + 1))) (n + 1) (nI h)) (upd tr (n + 1) (nI (r - a))) (nI L.length) cur) := hD
              refine lv_goto (tgt := 37) hx hb dX0_take_158 (by decide) ?_
              refine ih (n + 1) h (r - a) f y (upd (upd tk n (nI (h + 1))) (n + 1) (nI h)) (upd tr (n + 1) (nI (r - a))) _ _ _ (by omega) (by omega) (by omega) (by omega) (by omega) hy pk_us pk_us ?_ hP hD hS (lv_sub hl [3, 4, 5, 0, 6, 7] rfl)
              intro tk9 tr9 H locs ls hag hP hD hS hl
              have hl : lv_has ls 8 [(0, .ref (g 0)), (1, .int (nI c)), (2, .int (bI b)), (3, .int (nI n)), (4, .int (nI (f + wy (L.drop h) (r - a)))), (5, .int (nI (min y (n + 1 + fe (L.drop h) (r - a)))))] := by
                have e9 : iI (((n + 1 : Nat) : Int) - 1) = nI n := by rw [nI_iI]; congr 1; omega
                rw [e9] at hl
                exact hl
              have q1 := hag n (by omega)
              refine ih n (h + 1) r (f + wy (L.drop h) (r - a)) (min y (n + 1 + fe (L.drop h) (r - a))) tk9 tr9 _ _ _ (by omega) hn1 hr0 hr1 (by omega) (by omega) (by rw [q1.1, pk_un (by omega), pk_us]) (by rw [q1.2, pk_un (by omega)]; exact htr) ?_ hP hD hS hl
              intro tk8 tr8 H locs ls hag2 hP hD hS hl
              refine ct tk8 tr8 H locs ls (fun i hi => ?_) hP hD hS ?_
              · have q2 := hag2 i hi
                have q3 := hag i (by omega)
                refine ⟨?_, ?_⟩
                · rw [q2.1, q3.1, pk_un (by omega), pk_un (by omega)]
                · rw [q2.2, q3.2, pk_un (by omega)]
              · have e3 : f + wy (L.drop h) r = f + wy (L.drop h) (r - a) + wy (L.drop (h + 1)) r := by omega
                have e4 : min y (n + fe (L.drop h) r) = min (min y (n + 1 + fe (L.drop h) (r - a))) (n + fe (L.drop (h + 1)) r) := by omega
                rw [e3, e4]
                exact hl
            · have hra : r - a = 0 := by omega
              have e5 : wy (L.drop h) (r - a) = 1 := by rw [hra]; exact wy_0 (okl_drop hk0 h)
              have e6 : fe (L.drop h) (r - a) = 0 := by rw [hra]; exact fe_0 (okl_drop hk0 h)
              refine lv_iinc (v := nI (f + 1)) (lv' := [(4, .int (nI (f + 1))), (7, .int (nI (r - a))), (6, .int (nI h)), (0, .ref (g 0)), (1, .int (nI c)), (2, .int (bI b)), (3, .int (nI n)), (5, .int (nI (y)))]) hx hb dX0_take_115 hl (k := 6) rfl (nI_1 _) (by decide) rfl (fun ls hl => ?_)
              have jb : ∀  (H : Heap) (locs : List Loc) (ls : Array Slot), va_P D vwCl (wB g d fw fn fx fl fp ft (upd tk n (nI (h + 1))) tr (nI L.length) cur) H → va_D A (wB g d fw fn fx fl fp ft (upd tk n (nI (h + 1))) tr (nI L.length) cur) → va_S A s.heap H locs → lv_has ls 8 [(0, .ref (g 0)), (1, .int (nI c)), (2, .int (bI b)), (3, .int (nI n)), (4, .int (nI (f + 1))), (5, .int (nI y))] → W p l e rX0_take s m args below meth mc H locs 0 0 Q (F0 m 134 ls [.int (nI (min y (n + 1)))]) := by
                intro  H locs ls  hP hD hS hl
                refine lv_istore (lv' := [(5, .int (nI (min y (n + 1)))), (0, .ref (g 0)), (1, .int (nI c)), (2, .int (bI b)), (3, .int (nI n)), (4, .int (nI (f + 1)))]) hx hb dX0_take_134 hl (by decide) rfl (fun ls hl => ?_)
                refine lv_goto (tgt := 158) hx hb dX0_take_136 (by decide) ?_
                refine lv_goto (tgt := 37) hx hb dX0_take_158 (by decide) ?_
                exact ih n (h + 1) r (f + 1) (min y (n + 1)) (upd tk n (nI (h + 1))) tr _ _ _ (by omega) hn1 hr0 hr1 (by omega) (by omega) pk_us htr (fun tk9 tr9 H locs ls hag hP hD hS hl => ct tk9 tr9 H locs ls (fun i hi => ⟨(hag i hi).1.trans (pk_un (by omega)), (hag i hi).2⟩) hP hD hS (by rw [show f + wy (L.drop h) r = f + 1 + wy (L.drop (h + 1)) r by omega, show min y (n + fe (L.drop h) r) = min (min y (n + 1)) (n + fe (L.drop (h + 1)) r) by omega]; exact hl)) hP hD hS (lv_sub hl [1, 2, 3, 4, 5, 0] rfl)
              refine lv_iload_n hx hb dX0_take_118 rfl (lv_at hl 6 rfl) ?_
              refine lv_iconst (v := 1) hx hb dX0_take_119 (by decide) ?_
              refine lv_iadd hx hb dX0_take_120 ?_
              refine tpi (y := nI (n + 1)) (nI_1 _) ?_
              refine lv_iload hx hb dX0_take_121 (lv_at hl 7 rfl) ?_
              refine z_ge (X := ((n + 1 : Nat) : Int)) (Y := ((y : Nat) : Int)) (tgt := 132) hx hb dX0_take_123 (by decide) (nI_toInt (by omega)) (nI_toInt (by omega)) (fun hc7 => ?_) (fun hc7 => ?_)
              · refine lv_iload hx hb dX0_take_132 (lv_at hl 7 rfl) ?_
                refine tpi (y := nI (min y (n + 1))) (by rw [show min y (n + 1) = y by omega]) ?_
                exact jb  _ _ _  hP hD hS (lv_sub hl [3, 4, 5, 6, 0, 7] rfl)
              · refine lv_iload_n hx hb dX0_take_126 rfl (lv_at hl 6 rfl) ?_
                refine lv_iconst (v := 1) hx hb dX0_take_127 (by decide) ?_
                refine lv_iadd hx hb dX0_take_128 ?_
                refine tpi (y := nI (n + 1)) (nI_1 _) ?_
                refine lv_goto (tgt := 134) hx hb dX0_take_129 (by decide) ?_
                refine tpi (y := nI (min y (n + 1))) (by rw [show min y (n + 1) = n + 1 by omega]) ?_
                exact jb  _ _ _  hP hD hS (lv_sub hl [3, 4, 5, 6, 0, 7] rfl)
        · have hh2 : h = L.length := by omega
          have hdr : L.drop h = [] := List.drop_eq_nil_of_le (by omega)
          refine lv_iinc (v := iI ((n : Int) - 1)) (lv' := [(3, .int (iI ((n : Int) - 1))), (6, .int (nI h)), (0, .ref (g 0)), (1, .int (nI c)), (2, .int (bI b)), (4, .int (nI (f))), (5, .int (nI (y)))]) hx hb dX0_take_58 hl (k := 4) rfl (by rw [show Int32.ofInt (-1) = iI (-1) from rfl, nI_iI, iI_add]; congr 1) (by decide) rfl (fun ls hl => ?_)
          refine lv_goto (tgt := 158) hx hb dX0_take_61 (by decide) ?_
          refine lv_goto (tgt := 37) hx hb dX0_take_158 (by decide) ?_
          exact ct tk tr _ _ _ (fun i _ => ⟨rfl, rfl⟩) hP hD hS (by rw [hdr, wy_nil, fe_nil, if_neg (by omega), if_neg (by omega), Nat.add_zero, show min y (n + 1000) = y by omega]; exact lv_sub hl [2, 3, 4, 0, 5, 6] rfl)
  refine lv_iconst (v := 0) hx hb dX0_take_0 (by decide) ?_
  refine lv_istore_n (lv' := [(3, .int 0), (0, .ref (g 0)), (1, .int (nI c)), (2, .int (bI b))]) hx hb dX0_take_1 rfl hl (by decide) rfl (fun ls hl => ?_)
  refine lv_iconst (v := 0) hx hb dX0_take_2 (by decide) ?_
  refine lv_istore (lv' := [(4, .int 0), (3, .int 0), (0, .ref (g 0)), (1, .int (nI c)), (2, .int (bI b))]) hx hb dX0_take_3 hl (by decide) rfl (fun ls hl => ?_)
  refine lv_bipush (v := 31) hx hb dX0_take_5 (by decide) ?_
  refine lv_istore (lv' := [(5, .int 31), (4, .int 0), (3, .int 0), (0, .ref (g 0)), (1, .int (nI c)), (2, .int (bI b))]) hx hb dX0_take_7 hl (by decide) rfl (fun ls hl => ?_)
  refine lv_aload_n hx hb dX0_take_9 rfl (lv_at hl 3 rfl) ?_
  refine va_get (D := D) (ci := 0) (v := .ref (g 8)) (C := RX0) (T := TX0) (N := 10) hx hb hts in_X0 hown hK hP 0 rfl rfl 7 (by decide) (hts _ q42) (fun _ h9 => h9) rfl dX0_take_10 ?_
  refine lv_iconst (v := 0) hx hb dX0_take_13 (by decide) ?_
  refine lv_iload_n hx hb dX0_take_14 rfl (lv_at hl 4 rfl) ?_
  refine xast (x := nI c) hx hb hK hP hD hS 8 0 rfl rfl (0) (nI_0.symm) (by decide) (by decide) dX0_take_15 (fun H locs hP hD hS => ?_)
  have hP : va_P D vwCl (wB g d fw fn fx fl fp ft fk (upd fr 0 (nI c)) (nI L.length) cur) H := hP
  have hD : va_D A (wB g d fw fn fx fl fp ft fk (upd fr 0 (nI c)) (nI L.length) cur) := hD
  refine lv_aload_n hx hb dX0_take_16 rfl (lv_at hl 3 rfl) ?_
  refine va_get (D := D) (ci := 0) (v := .ref (g 7)) (C := RX0) (T := TX0) (N := 10) hx hb hts in_X0 hown hK hP 0 rfl rfl 6 (by decide) (hts _ q41) (fun _ h9 => h9) rfl dX0_take_17 ?_
  refine lv_iconst (v := 0) hx hb dX0_take_20 (by decide) ?_
  refine lv_iconst (v := 0) hx hb dX0_take_21 (by decide) ?_
  refine xast (x := 0) hx hb hK hP hD hS 7 0 rfl rfl (0) (nI_0.symm) (by decide) (by decide) dX0_take_22 (fun H locs hP hD hS => ?_)
  have hP : va_P D vwCl (wB g d fw fn fx fl fp ft (upd fk 0 0) (upd fr 0 (nI c)) (nI L.length) cur) H := hP
  have hD : va_D A (wB g d fw fn fx fl fp ft (upd fk 0 0) (upd fr 0 (nI c)) (nI L.length) cur) := hD
  refine lv_iload_n hx hb dX0_take_23 rfl (lv_at hl 4 rfl) ?_
  refine z0_ne (X := ((c : Nat) : Int)) (tgt := 37) hx hb dX0_take_24 (by decide) (nI_toInt (by omega)) (fun hcz => ?_) (fun hcz => ?_)
  · have hs := sz_le c
    refine lp _ 0 0 c 0 31 (upd fk 0 0) (upd fr 0 (nI c)) _ _ _ (Nat.lt_succ_self _) (by omega) (by omega) hc0 (by omega) (by omega) pk_us pk_us ?_ hP hD hS (lv_sub hl [3, 4, 5, 2, 1, 0] rfl)
    intro tk9 tr9 H locs ls hag hP hD hS hl
    refine lv_iload_n hx hb dX0_take_37 rfl (lv_at hl 3 rfl) ?_
    refine z0_lt (X := (((0 : Nat) : Int) - 1)) (tgt := 161) hx hb dX0_take_38 (by decide) (iI_toInt (by omega) (by omega)) (fun hc8 => ?_) (fun hc8 => ?_)
    · refine lv_iload_n hx hb dX0_take_161 rfl (lv_at hl 2 rfl) ?_
      refine b_eq (b := b) (tgt := 170) hx hb dX0_take_162 (by decide) (fun hb9 => ?_) (fun hb9 => ?_)
      · refine lv_iload hx hb dX0_take_170 (lv_at hl 4 rfl) ?_
        exact ret _ ((tk9, tr9)) _ _ _ _ dX0_take_172 (rfl) (by subst hb9; show nI (0 + wy (L.drop 0) c) = nI (wy L c); rw [Nat.zero_add, List.drop_zero]) hP hD hS
      · refine lv_iload hx hb dX0_take_165 (lv_at hl 5 rfl) ?_
        refine lv_goto (tgt := 172) hx hb dX0_take_167 (by decide) ?_
        exact ret _ ((tk9, tr9)) _ _ _ _ dX0_take_172 (rfl) (by subst hb9; show nI (min 31 (0 + fe (L.drop 0) c)) = nI (min 31 (fe L c)); rw [Nat.zero_add, List.drop_zero]) hP hD hS
    · omega
  · obtain rfl : c = 0 := (by omega)
    refine lv_iload_n hx hb dX0_take_27 rfl (lv_at hl 5 rfl) ?_
    refine b_eq (b := b) (tgt := 35) hx hb dX0_take_28 (by decide) (fun hb9 => ?_) (fun hb9 => ?_)
    · refine lv_iconst (v := 1) hx hb dX0_take_35 (by decide) ?_
      exact ret _ ((_, _)) _ _ _ _ dX0_take_36 (rfl) (by subst hb9; show (1 : Int32) = nI (wy L 0); rw [wy_0 hk0]; rfl) hP hD hS
    · refine lv_iconst (v := 0) hx hb dX0_take_31 (by decide) ?_
      refine lv_goto (tgt := 36) hx hb dX0_take_32 (by decide) ?_
      exact ret _ ((_, _)) _ _ _ _ dX0_take_36 (rfl) (by subst hb9; show (0 : Int32) = nI (min 31 (fe L 0)); rw [fe_0 hk0]; rfl) hP hD hS
end
section
/-! the class's public methods -/
theorem aSet_1 {w : Nat → Int} {x y : Int32} (h : ¬ (0 ≤ x.toInt ∧ x.toInt < 5)) : aSet w x y = -1 ∧ nSet w x y = w := ⟨if_neg h, if_neg (fun q => h q.1)⟩
theorem aSet_2 {w : Nat → Int} {i : Nat} {y : Int32} (hi : i < 5) (h : ¬ (-6 ≤ y.toInt ∧ y.toInt ≤ 6)) : aSet w (nI i) y = -2 ∧ nSet w (nI i) y = w := by
  refine ⟨?_, if_neg (fun q => h q.2)⟩
  unfold aSet
  rw [nI_toInt (by omega), if_pos (by omega), if_neg h]
theorem aSet_0 {w : Nat → Int} {i : Nat} {y : Int32} (hi : i < 5) (h : -6 ≤ y.toInt ∧ y.toInt ≤ 6) : aSet w (nI i) y = iI (w i) := by
  unfold aSet
  rw [nI_toNat (by omega), nI_toInt (by omega), if_pos (by omega), if_pos h]
theorem aSow_1 {w : Nat → Int} {x y : Int32} (h : ¬ (0 ≤ x.toInt ∧ x.toInt ≤ 12)) : aSow x y = -1 ∧ nSow w x y = w := ⟨if_neg h, if_neg (fun q => h q.1)⟩
theorem aSow_2 {w : Nat → Int} {a : Nat} {y : Int32} (ha : a < 13) (h : ¬ (0 ≤ y.toInt ∧ y.toInt ≤ 12)) : aSow (nI a) y = -2 ∧ nSow w (nI a) y = w := by
  refine ⟨?_, if_neg (fun q => h q.2)⟩
  unfold aSow
  rw [nI_toInt (by omega), if_pos (by omega), if_neg h]
theorem aSow_0 {w : Nat → Int} {a b : Nat} (ha : a < 13) (hb : b < 13) : aSow (nI a) (nI b) = iI (swk a b 5) ∧ nSow w (nI a) (nI b) = swv a b := by
  unfold aSow nSow
  rw [nI_toNat (by omega), nI_toNat (by omega), nI_toInt (by omega), nI_toInt (by omega), if_pos (by omega), if_pos (by omega), if_pos (by omega)]
  exact ⟨rfl, rfl⟩
theorem aWeight_0 {w : Nat → Int} {i : Nat} (hi : i < 5) : aWeight w (nI i) = iI (w i) := by
  unfold aWeight
  rw [nI_toNat (by omega), nI_toInt (by omega), if_pos (by omega)]
theorem aIsBal_0 {w : Nat → Int} {c : Nat} (hc : c < 16807) : aIsBal w (nI c) = bI (decide (sm w c = 0)) := by
  unfold aIsBal
  rw [nI_toNat (by omega), nI_toInt (by omega), if_pos (by omega)]
theorem aIsLeast_0 {w : Nat → Int} {c : Nat} (hc : c < 16807) : aIsLeast w (nI c) = bI (decide (c ∈ LL w)) := by
  unfold aIsLeast
  rw [nI_toNat (by omega), nI_toInt (by omega), if_pos (by omega)]
theorem aCode_0 {w : Nat → Int} {c : Nat} (hc : c < (LL w).length) : aCode w (nI c) = nI ((LL w).getD c 0) := by
  have := LL_len w
  unfold aCode
  rw [nI_toNat (by omega), nI_toInt (by omega), if_pos (by omega)]
theorem aUsing_0 {w : Nat → Int} {i : Nat} (hi : i < 5) : aUsing w (nI i) = nI (usk (LL w) i (LL w).length) := by
  unfold aUsing
  rw [nI_toNat (by omega), nI_toInt (by omega), if_pos (by omega)]
theorem aBal_0 {w : Nat → Int} {n : Nat} (hn : n < 21) : aBal w (nI n) = nI (ct w 5 n 0) := by
  unfold aBal
  rw [nI_toNat (by omega), nI_toInt (by omega), if_pos (by omega)]
theorem aFew_0 {w : Nat → Int} {c : Nat} (hc : c < 16807) (h : sm w c = 0) : aFew w (nI c) = nI (fe (LL w) c) := by
  unfold aFew
  rw [nI_toNat (by omega), nI_toInt (by omega), if_pos (by omega), if_pos h]
theorem aFew_2 {w : Nat → Int} {c : Nat} (hc : c < 16807) (h : ¬ sm w c = 0) : aFew w (nI c) = -2 := by
  unfold aFew
  rw [nI_toNat (by omega), nI_toInt (by omega), if_pos (by omega), if_neg h]
theorem aWays_0 {w : Nat → Int} {c : Nat} (hc : c < 16807) (h : sm w c = 0) : aWays w (nI c) = nI (wy (LL w) c) := by
  unfold aWays
  rw [nI_toNat (by omega), nI_toInt (by omega), if_pos (by omega), if_pos h]
theorem aWays_2 {w : Nat → Int} {c : Nat} (hc : c < 16807) (h : ¬ sm w c = 0) : aWays w (nI c) = -2 := by
  unfold aWays
  rw [nI_toNat (by omega), nI_toInt (by omega), if_pos (by omega), if_neg h]
theorem aIns_0 {w : Nat → Int} {c : Nat} (hc : c < 16807) : aIns w (nI c) = insd (LL w) c := by
  unfold aIns
  rw [nI_toNat (by omega), nI_toInt (by omega), if_pos (by omega)]
theorem fe_31 {w : Nat → Int} {c : Nat} (hc : c < 16807) (h : sm w c = 0) : min 31 (fe (LL w) c) = fe (LL w) c := by
  have h1 := fe_bal w c c (Nat.le_refl _) hc h
  have h2 := sz_le c
  omega
theorem usk_1 {L : List Nat} {i k : Nat} (h : 0 < dg (L.getD k 0) i) : nI (usk L i k) + 1 = nI (usk L i (k + 1)) := by
  show _ = nI (usk L i k + (if 0 < dg (L.getD k 0) i then 1 else 0))
  rw [if_pos h, nI_1]
theorem usk_0 {L : List Nat} {i k : Nat} (h : ¬ 0 < dg (L.getD k 0) i) : nI (usk L i k) + 0 = nI (usk L i (k + 1)) := by
  show _ = nI (usk L i k + (if 0 < dg (L.getD k 0) i then 1 else 0))
  rw [if_neg h]
  exact nI_add _ 0
theorem lok_1 {L : List Nat} {k : Nat} (h : lok L k < sz (L.getD k 0)) : nI (sz (L.getD k 0)) = nI (lok L (k + 1)) := by
  show _ = nI (max (lok L k) (sz (L.getD k 0)))
  rw [Nat.max_eq_right (by omega)]
theorem lok_0 {L : List Nat} {k : Nat} (h : sz (L.getD k 0) ≤ lok L k) : nI (lok L k) = nI (lok L (k + 1)) := by
  show _ = nI (max (lok L k) (sz (L.getD k 0)))
  rw [Nat.max_eq_left h]
theorem lok_le (L : List Nat) : ∀ k, lok L k ≤ 30
  | 0 => by show 0 ≤ 30; omega
  | k + 1 => by
    have h1 := lok_le L k
    have h2 := sz_le (L.getD k 0)
    show max (lok L k) (sz (L.getD k 0)) ≤ 30
    omega
theorem smc_1 {w : Nat → Int} {c : Nat} (h : sm w c = 0) : nI (smc w c) + 1 = nI (smc w (c + 1)) := by
  show _ = nI (smc w c + (if sm w c = 0 then 1 else 0))
  rw [if_pos h, nI_1]
theorem smc_0 {w : Nat → Int} {c : Nat} (h : ¬ sm w c = 0) : nI (smc w c) + 0 = nI (smc w (c + 1)) := by
  show _ = nI (smc w c + (if sm w c = 0 then 1 else 0))
  rw [if_neg h]
  exact nI_add _ 0
/-- the table holds f -/
def tabr (t : Nat → Int32) (f : Nat → Int → Nat) : Prop := ∀ n, n ≤ 20 → ∀ j, j ≤ 240 → t (241 * n + j) = nI (f n ((j : Int) - 120))
def tabq (t : Nat → Int32) (w : Nat → Int) (i n : Nat) : Prop := ∀ q, q ≤ 20 → ∀ j, j ≤ 240 → t (241 * q + j) = nI (if q < n then ct w (i + 1) q ((j : Int) - 120) else ct w i q ((j : Int) - 120))
theorem tabr_base {t : Nat → Int32} (h : ∀ k, k < 5061 → t k = 0) : tabr (upd t 120 1) cbase := by
  intro n hn j hj
  unfold cbase
  by_cases e : 241 * n + j = 120
  · rw [e, pk_us, if_pos (by omega)]
    rfl
  · rw [pk_un e, h _ (by omega), if_neg (by omega)]
    rfl
theorem tabq_start {t : Nat → Int32} {w : Nat → Int} {i : Nat} (h : tabr t (ct w i)) : tabq t w i 1 := by
  intro q hq j hj
  rw [h q hq j hj]
  by_cases e : q < 1
  · obtain rfl : q = 0 := (by omega)
    rw [if_pos e]
    rfl
  · rw [if_neg e]
theorem tabq_end {t : Nat → Int32} {w : Nat → Int} {i : Nat} (h : tabq t w i 21) : tabr t (ct w (i + 1)) := by
  intro q hq j hj
  rw [h q hq j hj, if_pos (by omega)]
theorem tabq_step {t u : Nat → Int32} {w : Nat → Int} {i n : Nat} (ho : okw w) (hi : i < 5) (h1 : 1 ≤ n) (h20 : n ≤ 20) (h : tabq t w i n) (hu : ∀ k, k < 5061 → u k = au t (w i) n k) : tabq u w i (n + 1) := by
  intro q hq j hj
  have hwi := ho i hi
  rw [hu _ (by omega)]
  by_cases e : q = n
  · subst e
    rw [if_pos (by omega)]
    have hst : ct w (i + 1) q ((j : Int) - 120) = ct w i q ((j : Int) - 120) + ct w (i + 1) (q - 1) ((j : Int) - 120 - w i) := by
      obtain ⟨p, rfl⟩ : ∃ p, q = p + 1 := ⟨q - 1, by omega⟩
      rfl
    unfold au
    by_cases r : 0 ≤ (j : Int) - w i ∧ (j : Int) - w i ≤ 240
    · rw [if_pos (by omega), h q hq j hj, if_neg (by omega)]
      have e2 : (((241 * q + j : Nat) : Int) - 241 - w i).toNat = 241 * (q - 1) + ((j : Int) - w i).toNat := by omega
      rw [e2, h (q - 1) (by omega) _ (by omega), if_pos (by omega), nI_add, hst]
      congr 3
      omega
    · rw [if_neg (by omega), h q hq j hj, if_neg (by omega), hst, ct_far ho (i + 1) (by omega) (q - 1) _ (by omega), Nat.add_zero]
  · have e2 : au t (w i) n (241 * q + j) = t (241 * q + j) := by
      unfold au
      rw [if_neg (by omega)]
    rw [e2, h q hq j hj]
    by_cases r : q < n
    · rw [if_pos r, if_pos (by omega)]
    · rw [if_neg r, if_neg (by omega)]
theorem upd_sw {f : Nat → Int32} {a b j : Nat} (e : ∀ k, k < j → f k = iI (swv a b k)) (k : Nat) (hk : k < j + 1) : upd f j (iI (swv a b j)) k = iI (swv a b k) := by
  by_cases q : k = j
  · subst q
    exact pk_us
  · rw [pk_un q]
    exact e k (by omega)
abbrev rX0_set : Room := { frames := 1, cells := 0, slots := 0, locals := 20 }
set_option maxHeartbeats 4000000 in
set_option maxRecDepth 100000 in
theorem metX0_set {l : Launch} {D : va_G} {d : ClassId} {g : Nat → Nat} {fw fn fx fl fp ft fk fr : Nat → Int32} {cnt cur : Int32} {hz : Nat} {w : Nat → Int} {x y : Int32} (hI : InvB w (fw, fn, fx, fl, fp, ft, fk, fr, cnt, cur)) : mIO l yX0_set cX0_set 4 .int rX0_set [.ref (g 0), .int x, .int y] D d (wB g d fw fn fx fl fp ft fk fr cnt cur) hz (S := SB) (fun r u => r = aSet w x y ∧ InvB (nSet w x y) u) (fun u => wSB g d u) := by
  refine mIO.ofW (by decide) (Nat.le_of_ble_eq_true rfl) ?_
  intro p e s m args below meth mc Q A ls S hP hK hA hS hl hD ret
  have S : CallFix p m mc cX0_set 4 s args lw_all RX0 := S
  have hx := S.1
  have hb := S.2.1
  have hown := S.2.2.2.1
  have hts := S.2.2.2.2
  have hl : lv_has ls 4 [(0, .ref (g 0)), (1, .int x), (2, .int y)] := hl
  obtain ⟨ho, hw, hq, hi⟩ := hI
  have hw : hww fw w := hw
  have hq : okp fp := hq
  have hi : cur = 0 ∨ (cur = 1 ∧ hli fl (LL w) ∧ cnt = nI (LL w).length) := hi
  refine lv_iload_n hx hb dX0_set_0 rfl (lv_at hl 1 rfl) ?_
  refine cROs (As := [.int x]) (rest := []) S (metX0_isIndex (x := x)) (va_cwS 1 hts (lw_S q71 q72 q25 q73) rfl rfl rfl (by decide +kernel) ⟨Nat.le_of_ble_eq_true rfl, Nat.le_of_ble_eq_true rfl⟩) hK hP hS hA rfl hl.1 rfl (Nat.le_of_ble_eq_true rfl) dX0_set_1 ⟨Nat.zero_le _, Nat.zero_le _⟩ (fun r9 H locs hr hP hS => ?_)
  obtain rfl : r9 = bI (decide (0 ≤ x.toInt ∧ x.toInt < 5)) := hr
  refine b_ne (b := decide (0 ≤ x.toInt ∧ x.toInt < 5)) (tgt := 9) hx hb dX0_set_4 (by decide) (fun hc => ?_) (fun hc => ?_)
  · obtain ⟨i, hi5, rfl⟩ := of_range (N := 5) (of_decide_eq_true hc)
    refine lv_iload_n hx hb dX0_set_9 rfl (lv_at hl 2 rfl) ?_
    refine lv_bipush (v := -6) hx hb dX0_set_10 (by decide) ?_
    refine z_lt (X := y.toInt) (Y := (-6)) (tgt := 21) hx hb dX0_set_12 (by decide) rfl (by decide) (fun hc1 => ?_) (fun hc1 => ?_)
    · refine lv_bipush (v := -2) hx hb dX0_set_21 (by decide) ?_
      have q := aSet_2 (w := w) (y := y) hi5 (by omega)
      exact ret _ ((fw, fn, fx, fl, fp, ft, fk, fr, cnt, cur)) _ _ _ _ dX0_set_23 (rfl) (⟨q.1.symm, by rw [q.2]; exact ⟨ho, hw, hq, hi⟩⟩) hP hD hS
    · refine lv_iload_n hx hb dX0_set_15 rfl (lv_at hl 2 rfl) ?_
      refine lv_bipush (v := 6) hx hb dX0_set_16 (by decide) ?_
      refine z_le (X := y.toInt) (Y := 6) (tgt := 24) hx hb dX0_set_18 (by decide) rfl (by decide) (fun hc2 => ?_) (fun hc2 => ?_)
      · refine lv_aload_n hx hb dX0_set_24 rfl (lv_at hl 0 rfl) ?_
        refine va_get (D := D) (ci := 0) (v := .ref (g 1)) (C := RX0) (T := TX0) (N := 10) hx hb hts in_X0 hown hK hP 0 rfl rfl 0 (by decide) (hts _ q35) (fun _ h9 => h9) rfl dX0_set_25 ?_
        refine lv_iload_n hx hb dX0_set_28 rfl (lv_at hl 1 rfl) ?_
        refine xald hx hb hK hP 1 0 rfl rfl (i) (rfl) (by omega) (by decide) dX0_set_29 ?_
        refine tpi (y := iI (w i)) (hw i hi5) ?_
        refine lv_istore_n (lv' := [(3, .int (iI (w i))), (0, .ref (g 0)), (1, .int (nI i)), (2, .int y)]) hx hb dX0_set_30 rfl hl (by decide) rfl (fun ls hl => ?_)
        refine lv_aload_n hx hb dX0_set_31 rfl (lv_at hl 1 rfl) ?_
        refine va_get (D := D) (ci := 0) (v := .ref (g 1)) (C := RX0) (T := TX0) (N := 10) hx hb hts in_X0 hown hK hP 0 rfl rfl 0 (by decide) (hts _ q35) (fun _ h9 => h9) rfl dX0_set_32 ?_
        refine lv_iload_n hx hb dX0_set_35 rfl (lv_at hl 2 rfl) ?_
        refine lv_iload_n hx hb dX0_set_36 rfl (lv_at hl 3 rfl) ?_
        refine xast (x := y) hx hb hK hP hD hS 1 0 rfl rfl (i) (rfl) (by omega) (by decide) dX0_set_37 (fun H locs hP hD hS => ?_)
        have hP : va_P D vwCl (wB g d (upd fw i y) fn fx fl fp ft fk fr cnt cur) H := hP
        have hD : va_D A (wB g d (upd fw i y) fn fx fl fp ft fk fr cnt cur) := hD
        refine lv_aload_n hx hb dX0_set_38 rfl (lv_at hl 1 rfl) ?_
        refine lv_iconst (v := 0) hx hb dX0_set_39 (by decide) ?_
        refine va_put (D := D) (ci := 0) (v := .int 0) (ty := .boolean) (C := RX0) (T := TX0) (N := 10) hx hb hts in_X0 tyX0 tyX0_ok nmX0 hown hK hP hD hS 0 rfl rfl 9 (by decide) (hts _ q44) (fun _ h9 => h9) rfl (by decide +kernel) rfl rfl (Nat.le_of_ble_eq_true rfl) dX0_set_40 (fun H locs hP hD hS => ?_)
        have hP : va_P D vwCl (wB g d (upd fw i y) fn fx fl fp ft fk fr cnt 0) H := hP
        have hD : va_D A (wB g d (upd fw i y) fn fx fl fp ft fk fr cnt 0) := hD
        refine lv_iload_n hx hb dX0_set_43 rfl (lv_at hl 0 rfl) ?_
        exact ret _ ((upd fw i y, fn, fx, fl, fp, ft, fk, fr, cnt, 0)) _ _ _ _ dX0_set_44 (rfl) (⟨(aSet_0 hi5 (by omega)).symm, ⟨okw_set ho, hww_set hw hi5 (by omega), hq, Or.inl rfl⟩⟩) hP hD hS
      · refine lv_bipush (v := -2) hx hb dX0_set_21 (by decide) ?_
        have q := aSet_2 (w := w) (y := y) hi5 (by omega)
        exact ret _ ((fw, fn, fx, fl, fp, ft, fk, fr, cnt, cur)) _ _ _ _ dX0_set_23 (rfl) (⟨q.1.symm, by rw [q.2]; exact ⟨ho, hw, hq, hi⟩⟩) hP hD hS
  · refine lv_iconst (v := -1) hx hb dX0_set_7 (by decide) ?_
    have q := aSet_1 (w := w) (y := y) (of_decide_eq_false hc)
    exact ret _ ((fw, fn, fx, fl, fp, ft, fk, fr, cnt, cur)) _ _ _ _ dX0_set_8 (rfl) (⟨q.1.symm, by rw [q.2]; exact ⟨ho, hw, hq, hi⟩⟩) hP hD hS
abbrev rX0_sow : Room := { frames := 0, cells := 0, slots := 0, locals := 0 }
set_option maxHeartbeats 4000000 in
set_option maxRecDepth 100000 in
theorem metX0_sow {l : Launch} {D : va_G} {d : ClassId} {g : Nat → Nat} {fw fn fx fl fp ft fk fr : Nat → Int32} {cnt cur : Int32} {hz : Nat} {w : Nat → Int} {x y : Int32} (hI : InvB w (fw, fn, fx, fl, fp, ft, fk, fr, cnt, cur)) : mIO l yX0_sow cX0_sow 5 .int rX0_sow [.ref (g 0), .int x, .int y] D d (wB g d fw fn fx fl fp ft fk fr cnt cur) hz (S := SB) (fun r u => r = aSow x y ∧ InvB (nSow w x y) u) (fun u => wSB g d u) := by
  refine mIO.ofW (by decide) (Nat.le_of_ble_eq_true rfl) ?_
  intro p e s m args below meth mc Q A ls S hP hK hA hS hl hD ret
  have S : CallFix p m mc cX0_sow 5 s args lw_all RX0 := S
  have hx := S.1
  have hb := S.2.1
  have hown := S.2.2.2.1
  have hts := S.2.2.2.2
  have hl : lv_has ls 5 [(0, .ref (g 0)), (1, .int x), (2, .int y)] := hl
  obtain ⟨ho, hw, hq, hi⟩ := hI
  have hw : hww fw w := hw
  have hq : okp fp := hq
  have hi : cur = 0 ∨ (cur = 1 ∧ hli fl (LL w) ∧ cnt = nI (LL w).length) := hi
  refine lv_iload_n hx hb dX0_sow_0 rfl (lv_at hl 1 rfl) ?_
  refine z0_lt (X := x.toInt) (tgt := 10) hx hb dX0_sow_1 (by decide) rfl (fun hc1 => ?_) (fun hc1 => ?_)
  · refine lv_iconst (v := -1) hx hb dX0_sow_10 (by decide) ?_
    have q := aSow_1 (w := w) (x := x) (y := y) (by omega)
    exact ret _ ((fw, fn, fx, fl, fp, ft, fk, fr, cnt, cur)) _ _ _ _ dX0_sow_11 (rfl) (⟨q.1.symm, by rw [q.2]; exact ⟨ho, hw, hq, hi⟩⟩) hP hD hS
  · refine lv_iload_n hx hb dX0_sow_4 rfl (lv_at hl 1 rfl) ?_
    refine lv_bipush (v := 12) hx hb dX0_sow_5 (by decide) ?_
    refine z_le (X := x.toInt) (Y := 12) (tgt := 12) hx hb dX0_sow_7 (by decide) rfl (by decide) (fun hc2 => ?_) (fun hc2 => ?_)
    · obtain ⟨a, ha, rfl⟩ := of_range (N := 13) (x := x) (by omega)
      refine lv_iload_n hx hb dX0_sow_12 rfl (lv_at hl 2 rfl) ?_
      refine z0_lt (X := y.toInt) (tgt := 22) hx hb dX0_sow_13 (by decide) rfl (fun hc3 => ?_) (fun hc3 => ?_)
      · refine lv_bipush (v := -2) hx hb dX0_sow_22 (by decide) ?_
        have q := aSow_2 (w := w) (y := y) ha (by omega)
        exact ret _ ((fw, fn, fx, fl, fp, ft, fk, fr, cnt, cur)) _ _ _ _ dX0_sow_24 (rfl) (⟨q.1.symm, by rw [q.2]; exact ⟨ho, hw, hq, hi⟩⟩) hP hD hS
      · refine lv_iload_n hx hb dX0_sow_16 rfl (lv_at hl 2 rfl) ?_
        refine lv_bipush (v := 12) hx hb dX0_sow_17 (by decide) ?_
        refine z_le (X := y.toInt) (Y := 12) (tgt := 25) hx hb dX0_sow_19 (by decide) rfl (by decide) (fun hc4 => ?_) (fun hc4 => ?_)
        · obtain ⟨b, hb0, rfl⟩ := of_range (N := 13) (x := y) (by omega)
          have lp : ∀ (k : Nat) (i : Nat) (tw : Nat → Int32) (H : Heap) (locs : List Loc) (ls : Array Slot), 5 - i < k → i ≤ 5 → (∀ k, k < i → tw k = iI (swv a b k)) → va_P D vwCl (wB g d tw fn fx fl fp ft fk fr cnt cur) H → va_D A (wB g d tw fn fx fl fp ft fk fr cnt cur) → va_S A s.heap H locs → lv_has ls 5 [(0, .ref (g 0)), (1, .int (nI a)), (2, .int (nI b)), (3, .int (iI (swk a b i))), (4, .int (nI i))] → W p l e rX0_sow s m args below meth mc H locs 0 0 Q (F0 m 30 ls []) := by
            intro k
            induction k with
            | zero =>
              intro i tw H locs ls hk
              exact absurd hk (Nat.not_lt_zero _)
            | succ k ih =>
              intro i tw H locs ls hk hi5 hT hP hD hS hl
              refine lv_iload hx hb dX0_sow_30 (lv_at hl 4 rfl) ?_
              refine lv_iconst (v := 5) hx hb dX0_sow_32 (by decide) ?_
              refine z_ge (X := ((i : Nat) : Int)) (Y := 5) (tgt := 79) hx hb dX0_sow_33 (by decide) (nI_toInt (by omega)) (by decide) (fun hc5 => ?_) (fun hc5 => ?_)
              · obtain rfl : i = 5 := (by omega)
                refine lv_aload_n hx hb dX0_sow_79 rfl (lv_at hl 0 rfl) ?_
                refine lv_iconst (v := 0) hx hb dX0_sow_80 (by decide) ?_
                refine va_put (D := D) (ci := 0) (v := .int 0) (ty := .boolean) (C := RX0) (T := TX0) (N := 10) hx hb hts in_X0 tyX0 tyX0_ok nmX0 hown hK hP hD hS 0 rfl rfl 9 (by decide) (hts _ q44) (fun _ h9 => h9) rfl (by decide +kernel) rfl rfl (Nat.le_of_ble_eq_true rfl) dX0_sow_81 (fun H locs hP hD hS => ?_)
                have hP : va_P D vwCl (wB g d tw fn fx fl fp ft fk fr cnt 0) H := hP
                have hD : va_D A (wB g d tw fn fx fl fp ft fk fr cnt 0) := hD
                refine lv_iload_n hx hb dX0_sow_84 rfl (lv_at hl 3 rfl) ?_
                have q := aSow_0 (w := w) ha hb0
                exact ret _ ((tw, fn, fx, fl, fp, ft, fk, fr, cnt, 0)) _ _ _ _ dX0_sow_85 (rfl) (⟨q.1.symm, by rw [q.2]; exact ⟨fun _ _ => swv_b _ _ _, fun k hk => hT k hk, hq, Or.inl rfl⟩⟩) hP hD hS
              · have hbi : b * i * i ≤ 12 * 4 * 4 := Nat.mul_le_mul (Nat.mul_le_mul (by omega) (by omega)) (by omega)
                refine lv_aload_n hx hb dX0_sow_36 rfl (lv_at hl 0 rfl) ?_
                refine va_get (D := D) (ci := 0) (v := .ref (g 1)) (C := RX0) (T := TX0) (N := 10) hx hb hts in_X0 hown hK hP 0 rfl rfl 0 (by decide) (hts _ q35) (fun _ h9 => h9) rfl dX0_sow_37 ?_
                refine lv_iload hx hb dX0_sow_40 (lv_at hl 4 rfl) ?_
                refine lv_iload_n hx hb dX0_sow_42 rfl (lv_at hl 1 rfl) ?_
                refine lv_iconst (v := 5) hx hb dX0_sow_43 (by decide) ?_
                refine lv_iload hx hb dX0_sow_44 (lv_at hl 4 rfl) ?_
                refine lv_imul hx hb dX0_sow_46 ?_
                refine tpi (y := nI (5 * i)) (pk_mul 5 i) ?_
                refine lv_iadd hx hb dX0_sow_47 ?_
                refine tpi (y := nI (a + 5 * i)) (nI_add _ _) ?_
                refine lv_iload_n hx hb dX0_sow_48 rfl (lv_at hl 2 rfl) ?_
                refine lv_iload hx hb dX0_sow_49 (lv_at hl 4 rfl) ?_
                refine lv_imul hx hb dX0_sow_51 ?_
                refine tpi (y := nI (b * i)) (pk_mul _ _) ?_
                refine lv_iload hx hb dX0_sow_52 (lv_at hl 4 rfl) ?_
                refine lv_imul hx hb dX0_sow_54 ?_
                refine tpi (y := nI (b * i * i)) (pk_mul _ _) ?_
                refine lv_iadd hx hb dX0_sow_55 ?_
                refine tpi (y := nI (a + 5 * i + b * i * i)) (nI_add _ _) ?_
                refine lv_bipush (v := 13) hx hb dX0_sow_56 (by decide) ?_
                refine lv_irem hx hb dX0_sow_58 (by decide) ?_
                refine tpi (y := nI ((a + 5 * i + b * i * i) % 13)) (pk_rem (d := 13) (by omega) (by decide) (by decide)) ?_
                refine lv_bipush (v := 6) hx hb dX0_sow_59 (by decide) ?_
                refine lv_isub hx hb dX0_sow_61 ?_
                refine tpi (y := iI (swv a b i)) (by rw [nI_iI]; exact iI_sub _ 6) ?_
                refine xast (x := iI (swv a b i)) hx hb hK hP hD hS 1 0 rfl rfl (i) (rfl) (by omega) (by decide) dX0_sow_62 (fun H locs hP hD hS => ?_)
                have hP : va_P D vwCl (wB g d (upd tw i (iI (swv a b i))) fn fx fl fp ft fk fr cnt cur) H := hP
                have hD : va_D A (wB g d (upd tw i (iI (swv a b i))) fn fx fl fp ft fk fr cnt cur) := hD
                refine lv_iload_n hx hb dX0_sow_63 rfl (lv_at hl 3 rfl) ?_
                refine lv_aload_n hx hb dX0_sow_64 rfl (lv_at hl 0 rfl) ?_
                refine va_get (D := D) (ci := 0) (v := .ref (g 1)) (C := RX0) (T := TX0) (N := 10) hx hb hts in_X0 hown hK hP 0 rfl rfl 0 (by decide) (hts _ q35) (fun _ h9 => h9) rfl dX0_sow_65 ?_
                refine lv_iload hx hb dX0_sow_68 (lv_at hl 4 rfl) ?_
                refine xald hx hb hK hP 1 0 rfl rfl (i) (rfl) (by omega) (by decide) dX0_sow_70 ?_
                refine tpi (y := iI (swv a b i)) (pk_us) ?_
                refine lv_iadd hx hb dX0_sow_71 ?_
                refine tpi (y := iI (swk a b (i + 1))) (iI_add _ _) ?_
                refine lv_istore_n (lv' := [(3, .int (iI (swk a b (i + 1)))), (0, .ref (g 0)), (1, .int (nI a)), (2, .int (nI b)), (4, .int (nI i))]) hx hb dX0_sow_72 rfl hl (by decide) rfl (fun ls hl => ?_)
                refine lv_iinc (v := nI (i + 1)) (lv' := [(4, .int (nI (i + 1))), (3, .int (iI (swk a b (i + 1)))), (0, .ref (g 0)), (1, .int (nI a)), (2, .int (nI b))]) hx hb dX0_sow_73 hl (k := 4) rfl (nI_1 _) (by decide) rfl (fun ls hl => ?_)
                refine lv_goto (tgt := 30) hx hb dX0_sow_76 (by decide) ?_
                exact ih (i + 1) (upd tw i (iI (swv a b i))) _ _ _ (by omega) (by omega) (fun k hk => upd_sw hT k hk) hP hD hS (lv_sub hl [2, 3, 4, 1, 0] rfl)
          refine lv_iconst (v := 0) hx hb dX0_sow_25 (by decide) ?_
          refine lv_istore_n (lv' := [(3, .int 0), (0, .ref (g 0)), (1, .int (nI a)), (2, .int (nI b))]) hx hb dX0_sow_26 rfl hl (by decide) rfl (fun ls hl => ?_)
          refine lv_iconst (v := 0) hx hb dX0_sow_27 (by decide) ?_
          refine lv_istore (lv' := [(4, .int 0), (3, .int 0), (0, .ref (g 0)), (1, .int (nI a)), (2, .int (nI b))]) hx hb dX0_sow_28 hl (by decide) rfl (fun ls hl => ?_)
          exact lp _ 0 fw _ _ _ (Nat.lt_succ_self _) (by omega) (fun k hk => absurd hk (Nat.not_lt_zero _)) hP hD hS (lv_sub hl [2, 3, 4, 1, 0] rfl)
        · refine lv_bipush (v := -2) hx hb dX0_sow_22 (by decide) ?_
          have q := aSow_2 (w := w) (y := y) ha (by omega)
          exact ret _ ((fw, fn, fx, fl, fp, ft, fk, fr, cnt, cur)) _ _ _ _ dX0_sow_24 (rfl) (⟨q.1.symm, by rw [q.2]; exact ⟨ho, hw, hq, hi⟩⟩) hP hD hS
    · refine lv_iconst (v := -1) hx hb dX0_sow_10 (by decide) ?_
      have q := aSow_1 (w := w) (x := x) (y := y) (by omega)
      exact ret _ ((fw, fn, fx, fl, fp, ft, fk, fr, cnt, cur)) _ _ _ _ dX0_sow_11 (rfl) (⟨q.1.symm, by rw [q.2]; exact ⟨ho, hw, hq, hi⟩⟩) hP hD hS
abbrev rX0_weight : Room := { frames := 1, cells := 0, slots := 0, locals := 20 }
set_option maxHeartbeats 4000000 in
set_option maxRecDepth 100000 in
theorem metX0_weight {l : Launch} {D : va_G} {d : ClassId} {g : Nat → Nat} {fw fn fx fl fp ft fk fr : Nat → Int32} {cnt cur : Int32} {hz : Nat} {w : Nat → Int} {x : Int32} (hI : InvB w (fw, fn, fx, fl, fp, ft, fk, fr, cnt, cur)) : mIO l yX0_weight cX0_weight 2 .int rX0_weight [.ref (g 0), .int x] D d (wB g d fw fn fx fl fp ft fk fr cnt cur) hz (S := SB) (fun r u => r = aWeight w x ∧ InvB w u) (fun u => wSB g d u) := by
  refine mIO.ofW (by decide) (Nat.le_of_ble_eq_true rfl) ?_
  intro p e s m args below meth mc Q A ls S hP hK hA hS hl hD ret
  have S : CallFix p m mc cX0_weight 2 s args lw_all RX0 := S
  have hx := S.1
  have hb := S.2.1
  have hown := S.2.2.2.1
  have hts := S.2.2.2.2
  have hl : lv_has ls 2 [(0, .ref (g 0)), (1, .int x)] := hl
  obtain ⟨ho, hw, hq, hi⟩ := hI
  have hw : hww fw w := hw
  have hq : okp fp := hq
  have hi : cur = 0 ∨ (cur = 1 ∧ hli fl (LL w) ∧ cnt = nI (LL w).length) := hi
  refine lv_iload_n hx hb dX0_weight_0 rfl (lv_at hl 1 rfl) ?_
  refine cROs (As := [.int x]) (rest := []) S (metX0_isIndex (x := x)) (va_cwS 1 hts (lw_S q71 q72 q25 q73) rfl rfl rfl (by decide +kernel) ⟨Nat.le_of_ble_eq_true rfl, Nat.le_of_ble_eq_true rfl⟩) hK hP hS hA rfl hl.1 rfl (Nat.le_of_ble_eq_true rfl) dX0_weight_1 ⟨Nat.zero_le _, Nat.zero_le _⟩ (fun r9 H locs hr hP hS => ?_)
  obtain rfl : r9 = bI (decide (0 ≤ x.toInt ∧ x.toInt < 5)) := hr
  refine b_eq (b := decide (0 ≤ x.toInt ∧ x.toInt < 5)) (tgt := 16) hx hb dX0_weight_4 (by decide) (fun hc => ?_) (fun hc => ?_)
  · refine lv_bipush (v := -100) hx hb dX0_weight_16 (by decide) ?_
    exact ret _ ((fw, fn, fx, fl, fp, ft, fk, fr, cnt, cur)) _ _ _ _ dX0_weight_18 (rfl) (⟨(if_neg (of_decide_eq_false hc)).symm, ⟨ho, hw, hq, hi⟩⟩) hP hD hS
  · obtain ⟨i, hi5, rfl⟩ := of_range (N := 5) (of_decide_eq_true hc)
    refine lv_aload_n hx hb dX0_weight_7 rfl (lv_at hl 0 rfl) ?_
    refine va_get (D := D) (ci := 0) (v := .ref (g 1)) (C := RX0) (T := TX0) (N := 10) hx hb hts in_X0 hown hK hP 0 rfl rfl 0 (by decide) (hts _ q35) (fun _ h9 => h9) rfl dX0_weight_8 ?_
    refine lv_iload_n hx hb dX0_weight_11 rfl (lv_at hl 1 rfl) ?_
    refine xald hx hb hK hP 1 0 rfl rfl (i) (rfl) (by omega) (by decide) dX0_weight_12 ?_
    refine tpi (y := iI (w i)) (hw i hi5) ?_
    refine lv_goto (tgt := 18) hx hb dX0_weight_13 (by decide) ?_
    exact ret _ ((fw, fn, fx, fl, fp, ft, fk, fr, cnt, cur)) _ _ _ _ dX0_weight_18 (rfl) (⟨(aWeight_0 hi5).symm, ⟨ho, hw, hq, hi⟩⟩) hP hD hS
abbrev rX0_isBalance : Room := { frames := 2, cells := 0, slots := 0, locals := 46 }
set_option maxHeartbeats 4000000 in
set_option maxRecDepth 100000 in
theorem metX0_isBalance {l : Launch} {D : va_G} {d : ClassId} {g : Nat → Nat} {fw fn fx fl fp ft fk fr : Nat → Int32} {cnt cur : Int32} {hz : Nat} {w : Nat → Int} {x : Int32} (hI : InvB w (fw, fn, fx, fl, fp, ft, fk, fr, cnt, cur)) : mIO l yX0_isBalance cX0_isBalance 2 .int rX0_isBalance [.ref (g 0), .int x] D d (wB g d fw fn fx fl fp ft fk fr cnt cur) hz (S := SB) (fun r u => r = aIsBal w x ∧ InvB w u) (fun u => wSB g d u) := by
  refine mIO.ofW (by decide) (Nat.le_of_ble_eq_true rfl) ?_
  intro p e s m args below meth mc Q A ls S hP hK hA hS hl hD ret
  have S : CallFix p m mc cX0_isBalance 2 s args lw_all RX0 := S
  have hx := S.1
  have hb := S.2.1
  have hown := S.2.2.2.1
  have hts := S.2.2.2.2
  have hl : lv_has ls 2 [(0, .ref (g 0)), (1, .int x)] := hl
  obtain ⟨ho, hw, hq, hi⟩ := hI
  have hw : hww fw w := hw
  have hq : okp fp := hq
  have hi : cur = 0 ∨ (cur = 1 ∧ hli fl (LL w) ∧ cnt = nI (LL w).length) := hi
  refine lv_iload_n hx hb dX0_isBalance_0 rfl (lv_at hl 1 rfl) ?_
  refine cROs (As := [.int x]) (rest := []) S (metX0_isCode (x := x)) (va_cwS 1 hts (lw_S q86 q87 q25 q88) rfl rfl rfl (by decide +kernel) ⟨Nat.le_of_ble_eq_true rfl, Nat.le_of_ble_eq_true rfl⟩) hK hP hS hA rfl hl.1 rfl (Nat.le_of_ble_eq_true rfl) dX0_isBalance_1 ⟨Nat.zero_le _, Nat.zero_le _⟩ (fun r9 H locs hr hP hS => ?_)
  obtain rfl : r9 = bI (decide (0 ≤ x.toInt ∧ x.toInt < 16807)) := hr
  refine b_ne (b := decide (0 ≤ x.toInt ∧ x.toInt < 16807)) (tgt := 9) hx hb dX0_isBalance_4 (by decide) (fun hc => ?_) (fun hc => ?_)
  · obtain ⟨c, hc0, rfl⟩ := of_range (N := 16807) (of_decide_eq_true hc)
    have hbd := sm_bound ho c
    refine lv_aload_n hx hb dX0_isBalance_9 rfl (lv_at hl 0 rfl) ?_
    refine lv_iload_n hx hb dX0_isBalance_10 rfl (lv_at hl 1 rfl) ?_
    refine cRO (As := [.int (nI c)]) (rest := []) S (metX0_sumOf (c := c) (w := w) hq hw (by omega)) (cwV 1 hts (lw_V q89 q91 qs0 q25 q92) rfl rfl rfl (by decide +kernel) ⟨Nat.le_of_ble_eq_true rfl, Nat.le_of_ble_eq_true rfl⟩) hK hP hS hA rfl rfl rfl hl.1 rfl (Nat.le_of_ble_eq_true rfl) dX0_isBalance_11 ⟨Nat.zero_le _, Nat.zero_le _⟩ (fun r9 H locs hr hP hS => ?_)
    obtain rfl : r9 = iI (sm w c) := hr
    refine z0_ne (X := (sm w c)) (tgt := 21) hx hb dX0_isBalance_14 (by decide) (iI_toInt (by omega) (by omega)) (fun hs => ?_) (fun hs => ?_)
    · refine lv_iconst (v := 0) hx hb dX0_isBalance_21 (by decide) ?_
      exact ret _ ((fw, fn, fx, fl, fp, ft, fk, fr, cnt, cur)) _ _ _ _ dX0_isBalance_22 (rfl) (⟨by rw [aIsBal_0 hc0]; exact bI_f hs, ⟨ho, hw, hq, hi⟩⟩) hP hD hS
    · refine lv_iconst (v := 1) hx hb dX0_isBalance_17 (by decide) ?_
      refine lv_goto (tgt := 22) hx hb dX0_isBalance_18 (by decide) ?_
      exact ret _ ((fw, fn, fx, fl, fp, ft, fk, fr, cnt, cur)) _ _ _ _ dX0_isBalance_22 (rfl) (⟨by rw [aIsBal_0 hc0]; exact bI_t hs, ⟨ho, hw, hq, hi⟩⟩) hP hD hS
  · refine lv_iconst (v := -1) hx hb dX0_isBalance_7 (by decide) ?_
    exact ret _ ((fw, fn, fx, fl, fp, ft, fk, fr, cnt, cur)) _ _ _ _ dX0_isBalance_8 (rfl) (⟨(if_neg (of_decide_eq_false hc)).symm, ⟨ho, hw, hq, hi⟩⟩) hP hD hS
abbrev rX0_isLeast : Room := { frames := 6, cells := 0, slots := 0, locals := 136 }
set_option maxHeartbeats 4000000 in
set_option maxRecDepth 100000 in
theorem metX0_isLeast {l : Launch} {D : va_G} {d : ClassId} {g : Nat → Nat} {fw fn fx fl fp ft fk fr : Nat → Int32} {cnt cur : Int32} {hz : Nat} {w : Nat → Int} {x : Int32} (hI : InvB w (fw, fn, fx, fl, fp, ft, fk, fr, cnt, cur)) : mIO l yX0_isLeast cX0_isLeast 2 .int rX0_isLeast [.ref (g 0), .int x] D d (wB g d fw fn fx fl fp ft fk fr cnt cur) hz (S := SB) (fun r u => r = aIsLeast w x ∧ InvB w u) (fun u => wSB g d u) := by
  refine mIO.ofW (by decide) (Nat.le_of_ble_eq_true rfl) ?_
  intro p e s m args below meth mc Q A ls S hP hK hA hS hl hD ret
  have S : CallFix p m mc cX0_isLeast 2 s args lw_all RX0 := S
  have hx := S.1
  have hb := S.2.1
  have hown := S.2.2.2.1
  have hts := S.2.2.2.2
  have hl : lv_has ls 2 [(0, .ref (g 0)), (1, .int x)] := hl
  obtain ⟨ho, hw, hq, hi⟩ := hI
  have hw : hww fw w := hw
  have hq : okp fp := hq
  have hi : cur = 0 ∨ (cur = 1 ∧ hli fl (LL w) ∧ cnt = nI (LL w).length) := hi
  refine lv_iload_n hx hb dX0_isLeast_0 rfl (lv_at hl 1 rfl) ?_
  refine cROs (As := [.int x]) (rest := []) S (metX0_isCode (x := x)) (va_cwS 1 hts (lw_S q86 q87 q25 q88) rfl rfl rfl (by decide +kernel) ⟨Nat.le_of_ble_eq_true rfl, Nat.le_of_ble_eq_true rfl⟩) hK hP hS hA rfl hl.1 rfl (Nat.le_of_ble_eq_true rfl) dX0_isLeast_1 ⟨Nat.zero_le _, Nat.zero_le _⟩ (fun r9 H locs hr hP hS => ?_)
  obtain rfl : r9 = bI (decide (0 ≤ x.toInt ∧ x.toInt < 16807)) := hr
  refine b_ne (b := decide (0 ≤ x.toInt ∧ x.toInt < 16807)) (tgt := 9) hx hb dX0_isLeast_4 (by decide) (fun hc => ?_) (fun hc => ?_)
  · obtain ⟨c, hc0, rfl⟩ := of_range (N := 16807) (of_decide_eq_true hc)
    refine lv_aload_n hx hb dX0_isLeast_9 rfl (lv_at hl 0 rfl) ?_
    refine cVO (As := []) (rest := []) S (metX0_refresh (w := w) hq hw ho hi) (cwV 0 hts (lw_V q101 q103 qs2 q25 q104) rfl rfl rfl (by decide +kernel) ⟨Nat.le_of_ble_eq_true rfl, Nat.le_of_ble_eq_true rfl⟩) hK hP hD hS hA rfl rfl rfl hl.1 rfl (Nat.le_of_ble_eq_true rfl) dX0_isLeast_10 ⟨Nat.zero_le _, Nat.zero_le _⟩ (fun u H locs hu hP hD hS => ?_)
    obtain ⟨tn, tx, tl⟩ := u
    have hL : hli tl (LL w) := hu
    have hlen := LL_len w
    have hP : va_P D vwCl (wB g d fw tn tx tl fp ft fk fr (nI (LL w).length) 1) H := hP
    have hD : va_D A (wB g d fw tn tx tl fp ft fk fr (nI (LL w).length) 1) := hD
    refine lv_aload_n hx hb dX0_isLeast_13 rfl (lv_at hl 0 rfl) ?_
    refine lv_iload_n hx hb dX0_isLeast_14 rfl (lv_at hl 1 rfl) ?_
    refine cRO (As := [.int (nI c)]) (rest := []) S (metX0_place (c := c) (L := LL w) hL rfl (by omega) (LL_lt w) hc0) (cwV 1 hts (lw_V q129 q131 qs9 q25 q132) rfl rfl rfl (by decide +kernel) ⟨Nat.le_of_ble_eq_true rfl, Nat.le_of_ble_eq_true rfl⟩) hK hP hS hA rfl rfl rfl hl.1 rfl (Nat.le_of_ble_eq_true rfl) dX0_isLeast_15 ⟨Nat.zero_le _, Nat.zero_le _⟩ (fun r9 H locs hr hP hS => ?_)
    have hpl := hr
    refine z0_lt (X := r9.toInt) (tgt := 25) hx hb dX0_isLeast_18 (by decide) rfl (fun hs => ?_) (fun hs => ?_)
    · refine lv_iconst (v := 0) hx hb dX0_isLeast_25 (by decide) ?_
      exact ret _ ((fw, tn, tx, tl, fp, ft, fk, fr, nI (LL w).length, 1)) _ _ _ _ dX0_isLeast_26 (rfl) (⟨by rw [aIsLeast_0 hc0]; exact bI_f (by rcases hpl with q | q; omega; exact q.1), ⟨ho, hw, hq, Or.inr ⟨rfl, hL, rfl⟩⟩⟩) hP hD hS
    · refine lv_iconst (v := 1) hx hb dX0_isLeast_21 (by decide) ?_
      refine lv_goto (tgt := 26) hx hb dX0_isLeast_22 (by decide) ?_
      exact ret _ ((fw, tn, tx, tl, fp, ft, fk, fr, nI (LL w).length, 1)) _ _ _ _ dX0_isLeast_26 (rfl) (⟨by rw [aIsLeast_0 hc0]; exact bI_t (by rcases hpl with q | q; exact q.1; omega), ⟨ho, hw, hq, Or.inr ⟨rfl, hL, rfl⟩⟩⟩) hP hD hS
  · refine lv_iconst (v := -1) hx hb dX0_isLeast_7 (by decide) ?_
    exact ret _ ((fw, fn, fx, fl, fp, ft, fk, fr, cnt, cur)) _ _ _ _ dX0_isLeast_8 (rfl) (⟨(if_neg (of_decide_eq_false hc)).symm, ⟨ho, hw, hq, hi⟩⟩) hP hD hS
abbrev rX0_least : Room := { frames := 6, cells := 0, slots := 0, locals := 136 }
set_option maxHeartbeats 4000000 in
set_option maxRecDepth 100000 in
theorem metX0_least {l : Launch} {D : va_G} {d : ClassId} {g : Nat → Nat} {fw fn fx fl fp ft fk fr : Nat → Int32} {cnt cur : Int32} {hz : Nat} {w : Nat → Int} (hI : InvB w (fw, fn, fx, fl, fp, ft, fk, fr, cnt, cur)) : mIO l yX0_least cX0_least 1 .int rX0_least [.ref (g 0)] D d (wB g d fw fn fx fl fp ft fk fr cnt cur) hz (S := SB) (fun r u => r = aLeast w ∧ InvB w u) (fun u => wSB g d u) := by
  refine mIO.ofW (by decide) (Nat.le_of_ble_eq_true rfl) ?_
  intro p e s m args below meth mc Q A ls S hP hK hA hS hl hD ret
  have S : CallFix p m mc cX0_least 1 s args lw_all RX0 := S
  have hx := S.1
  have hb := S.2.1
  have hown := S.2.2.2.1
  have hts := S.2.2.2.2
  have hl : lv_has ls 1 [(0, .ref (g 0))] := hl
  obtain ⟨ho, hw, hq, hi⟩ := hI
  have hw : hww fw w := hw
  have hq : okp fp := hq
  have hi : cur = 0 ∨ (cur = 1 ∧ hli fl (LL w) ∧ cnt = nI (LL w).length) := hi
  refine lv_aload_n hx hb dX0_least_0 rfl (lv_at hl 0 rfl) ?_
  refine cVO (As := []) (rest := []) S (metX0_refresh (w := w) hq hw ho hi) (cwV 0 hts (lw_V q101 q103 qs2 q25 q104) rfl rfl rfl (by decide +kernel) ⟨Nat.le_of_ble_eq_true rfl, Nat.le_of_ble_eq_true rfl⟩) hK hP hD hS hA rfl rfl rfl hl.1 rfl (Nat.le_of_ble_eq_true rfl) dX0_least_1 ⟨Nat.zero_le _, Nat.zero_le _⟩ (fun u H locs hu hP hD hS => ?_)
  obtain ⟨tn, tx, tl⟩ := u
  have hL : hli tl (LL w) := hu
  have hlen := LL_len w
  have hP : va_P D vwCl (wB g d fw tn tx tl fp ft fk fr (nI (LL w).length) 1) H := hP
  have hD : va_D A (wB g d fw tn tx tl fp ft fk fr (nI (LL w).length) 1) := hD
  refine lv_aload_n hx hb dX0_least_4 rfl (lv_at hl 0 rfl) ?_
  refine va_get (D := D) (ci := 0) (v := .int (nI (LL w).length)) (C := RX0) (T := TX0) (N := 10) hx hb hts in_X0 hown hK hP 0 rfl rfl 8 (by decide) (hts _ q43) (fun _ h9 => h9) rfl dX0_least_5 ?_
  exact ret _ ((fw, tn, tx, tl, fp, ft, fk, fr, nI (LL w).length, 1)) _ _ _ _ dX0_least_8 (rfl) (⟨rfl, ⟨ho, hw, hq, Or.inr ⟨rfl, hL, rfl⟩⟩⟩) hP hD hS
abbrev rX0_code : Room := { frames := 6, cells := 0, slots := 0, locals := 136 }
set_option maxHeartbeats 4000000 in
set_option maxRecDepth 100000 in
theorem metX0_code {l : Launch} {D : va_G} {d : ClassId} {g : Nat → Nat} {fw fn fx fl fp ft fk fr : Nat → Int32} {cnt cur : Int32} {hz : Nat} {w : Nat → Int} {x : Int32} (hI : InvB w (fw, fn, fx, fl, fp, ft, fk, fr, cnt, cur)) : mIO l yX0_code cX0_code 2 .int rX0_code [.ref (g 0), .int x] D d (wB g d fw fn fx fl fp ft fk fr cnt cur) hz (S := SB) (fun r u => r = aCode w x ∧ InvB w u) (fun u => wSB g d u) := by
  refine mIO.ofW (by decide) (Nat.le_of_ble_eq_true rfl) ?_
  intro p e s m args below meth mc Q A ls S hP hK hA hS hl hD ret
  have S : CallFix p m mc cX0_code 2 s args lw_all RX0 := S
  have hx := S.1
  have hb := S.2.1
  have hown := S.2.2.2.1
  have hts := S.2.2.2.2
  have hl : lv_has ls 2 [(0, .ref (g 0)), (1, .int x)] := hl
  obtain ⟨ho, hw, hq, hi⟩ := hI
  have hw : hww fw w := hw
  have hq : okp fp := hq
  have hi : cur = 0 ∨ (cur = 1 ∧ hli fl (LL w) ∧ cnt = nI (LL w).length) := hi
  refine lv_aload_n hx hb dX0_code_0 rfl (lv_at hl 0 rfl) ?_
  refine cVO (As := []) (rest := []) S (metX0_refresh (w := w) hq hw ho hi) (cwV 0 hts (lw_V q101 q103 qs2 q25 q104) rfl rfl rfl (by decide +kernel) ⟨Nat.le_of_ble_eq_true rfl, Nat.le_of_ble_eq_true rfl⟩) hK hP hD hS hA rfl rfl rfl hl.1 rfl (Nat.le_of_ble_eq_true rfl) dX0_code_1 ⟨Nat.zero_le _, Nat.zero_le _⟩ (fun u H locs hu hP hD hS => ?_)
  obtain ⟨tn, tx, tl⟩ := u
  have hL : hli tl (LL w) := hu
  have hlen := LL_len w
  have hP : va_P D vwCl (wB g d fw tn tx tl fp ft fk fr (nI (LL w).length) 1) H := hP
  have hD : va_D A (wB g d fw tn tx tl fp ft fk fr (nI (LL w).length) 1) := hD
  refine lv_iload_n hx hb dX0_code_4 rfl (lv_at hl 1 rfl) ?_
  refine z0_lt (X := x.toInt) (tgt := 25) hx hb dX0_code_5 (by decide) rfl (fun hc => ?_) (fun hc => ?_)
  · refine lv_iconst (v := -1) hx hb dX0_code_25 (by decide) ?_
    exact ret _ ((fw, tn, tx, tl, fp, ft, fk, fr, nI (LL w).length, 1)) _ _ _ _ dX0_code_26 (rfl) (⟨(if_neg (by omega)).symm, ⟨ho, hw, hq, Or.inr ⟨rfl, hL, rfl⟩⟩⟩) hP hD hS
  · refine lv_iload_n hx hb dX0_code_8 rfl (lv_at hl 1 rfl) ?_
    refine lv_aload_n hx hb dX0_code_9 rfl (lv_at hl 0 rfl) ?_
    refine va_get (D := D) (ci := 0) (v := .int (nI (LL w).length)) (C := RX0) (T := TX0) (N := 10) hx hb hts in_X0 hown hK hP 0 rfl rfl 8 (by decide) (hts _ q43) (fun _ h9 => h9) rfl dX0_code_10 ?_
    refine z_ge (X := x.toInt) (Y := (((LL w).length : Nat) : Int)) (tgt := 25) hx hb dX0_code_13 (by decide) rfl (nI_toInt (by omega)) (fun hc2 => ?_) (fun hc2 => ?_)
    · refine lv_iconst (v := -1) hx hb dX0_code_25 (by decide) ?_
      exact ret _ ((fw, tn, tx, tl, fp, ft, fk, fr, nI (LL w).length, 1)) _ _ _ _ dX0_code_26 (rfl) (⟨(if_neg (by omega)).symm, ⟨ho, hw, hq, Or.inr ⟨rfl, hL, rfl⟩⟩⟩) hP hD hS
    · obtain ⟨c, hc0, rfl⟩ := of_range (N := (LL w).length) (x := x) (by omega)
      refine lv_aload_n hx hb dX0_code_16 rfl (lv_at hl 0 rfl) ?_
      refine va_get (D := D) (ci := 0) (v := .ref (g 4)) (C := RX0) (T := TX0) (N := 10) hx hb hts in_X0 hown hK hP 0 rfl rfl 3 (by decide) (hts _ q38) (fun _ h9 => h9) rfl dX0_code_17 ?_
      refine lv_iload_n hx hb dX0_code_20 rfl (lv_at hl 1 rfl) ?_
      refine xald hx hb hK hP 4 0 rfl rfl (c) (rfl) (by omega) (by decide) dX0_code_21 ?_
      refine tpi (y := nI ((LL w).getD c 0)) (hL c hc0) ?_
      refine lv_goto (tgt := 26) hx hb dX0_code_22 (by decide) ?_
      exact ret _ ((fw, tn, tx, tl, fp, ft, fk, fr, nI (LL w).length, 1)) _ _ _ _ dX0_code_26 (rfl) (⟨(aCode_0 hc0).symm, ⟨ho, hw, hq, Or.inr ⟨rfl, hL, rfl⟩⟩⟩) hP hD hS
abbrev rX0_using : Room := { frames := 6, cells := 0, slots := 0, locals := 136 }
set_option maxHeartbeats 4000000 in
set_option maxRecDepth 100000 in
theorem metX0_using {l : Launch} {D : va_G} {d : ClassId} {g : Nat → Nat} {fw fn fx fl fp ft fk fr : Nat → Int32} {cnt cur : Int32} {hz : Nat} {w : Nat → Int} {x : Int32} (hI : InvB w (fw, fn, fx, fl, fp, ft, fk, fr, cnt, cur)) : mIO l yX0_using cX0_using 4 .int rX0_using [.ref (g 0), .int x] D d (wB g d fw fn fx fl fp ft fk fr cnt cur) hz (S := SB) (fun r u => r = aUsing w x ∧ InvB w u) (fun u => wSB g d u) := by
  refine mIO.ofW (by decide) (Nat.le_of_ble_eq_true rfl) ?_
  intro p e s m args below meth mc Q A ls S hP hK hA hS hl hD ret
  have S : CallFix p m mc cX0_using 4 s args lw_all RX0 := S
  have hx := S.1
  have hb := S.2.1
  have hown := S.2.2.2.1
  have hts := S.2.2.2.2
  have hl : lv_has ls 4 [(0, .ref (g 0)), (1, .int x)] := hl
  obtain ⟨ho, hw, hq, hi⟩ := hI
  have hw : hww fw w := hw
  have hq : okp fp := hq
  have hi : cur = 0 ∨ (cur = 1 ∧ hli fl (LL w) ∧ cnt = nI (LL w).length) := hi
  refine lv_iload_n hx hb dX0_using_0 rfl (lv_at hl 1 rfl) ?_
  refine cROs (As := [.int x]) (rest := []) S (metX0_isIndex (x := x)) (va_cwS 1 hts (lw_S q71 q72 q25 q73) rfl rfl rfl (by decide +kernel) ⟨Nat.le_of_ble_eq_true rfl, Nat.le_of_ble_eq_true rfl⟩) hK hP hS hA rfl hl.1 rfl (Nat.le_of_ble_eq_true rfl) dX0_using_1 ⟨Nat.zero_le _, Nat.zero_le _⟩ (fun r9 H locs hr hP hS => ?_)
  obtain rfl : r9 = bI (decide (0 ≤ x.toInt ∧ x.toInt < 5)) := hr
  refine b_ne (b := decide (0 ≤ x.toInt ∧ x.toInt < 5)) (tgt := 9) hx hb dX0_using_4 (by decide) (fun hc => ?_) (fun hc => ?_)
  · obtain ⟨i, hi5, rfl⟩ := of_range (N := 5) (of_decide_eq_true hc)
    refine lv_aload_n hx hb dX0_using_9 rfl (lv_at hl 0 rfl) ?_
    refine cVO (As := []) (rest := []) S (metX0_refresh (w := w) hq hw ho hi) (cwV 0 hts (lw_V q101 q103 qs2 q25 q104) rfl rfl rfl (by decide +kernel) ⟨Nat.le_of_ble_eq_true rfl, Nat.le_of_ble_eq_true rfl⟩) hK hP hD hS hA rfl rfl rfl hl.1 rfl (Nat.le_of_ble_eq_true rfl) dX0_using_10 ⟨Nat.zero_le _, Nat.zero_le _⟩ (fun u H locs hu hP hD hS => ?_)
    obtain ⟨tn, tx, tl⟩ := u
    have hL : hli tl (LL w) := hu
    have hlen := LL_len w
    have hP : va_P D vwCl (wB g d fw tn tx tl fp ft fk fr (nI (LL w).length) 1) H := hP
    have hD : va_D A (wB g d fw tn tx tl fp ft fk fr (nI (LL w).length) 1) := hD
    refine lv_iconst (v := 0) hx hb dX0_using_13 (by decide) ?_
    refine lv_istore_n (lv' := [(2, .int 0), (0, .ref (g 0)), (1, .int (nI i))]) hx hb dX0_using_14 rfl hl (by decide) rfl (fun ls hl => ?_)
    refine lv_iconst (v := 0) hx hb dX0_using_15 (by decide) ?_
    refine lv_istore_n (lv' := [(3, .int 0), (2, .int 0), (0, .ref (g 0)), (1, .int (nI i))]) hx hb dX0_using_16 rfl hl (by decide) rfl (fun ls hl => ?_)
    have lp : ∀ (k : Nat) (j : Nat) (H : Heap) (locs : List Loc) (ls : Array Slot), (LL w).length - j < k → j ≤ (LL w).length → va_P D vwCl (wB g d fw tn tx tl fp ft fk fr (nI (LL w).length) 1) H → va_D A (wB g d fw tn tx tl fp ft fk fr (nI (LL w).length) 1) → va_S A s.heap H locs → lv_has ls 4 [(0, .ref (g 0)), (1, .int (nI i)), (2, .int (nI (usk (LL w) i j))), (3, .int (nI j))] → W p l e rX0_using s m args below meth mc H locs 0 0 Q (F0 m 17 ls []) := by
      intro k
      induction k with
      | zero =>
        intro j H locs ls hk
        exact absurd hk (Nat.not_lt_zero _)
      | succ k ih =>
        intro j H locs ls hk hj hP hD hS hl
        refine lv_iload_n hx hb dX0_using_17 rfl (lv_at hl 3 rfl) ?_
        refine lv_aload_n hx hb dX0_using_18 rfl (lv_at hl 0 rfl) ?_
        refine va_get (D := D) (ci := 0) (v := .int (nI (LL w).length)) (C := RX0) (T := TX0) (N := 10) hx hb hts in_X0 hown hK hP 0 rfl rfl 8 (by decide) (hts _ q43) (fun _ h9 => h9) rfl dX0_using_19 ?_
        refine z_ge (X := ((j : Nat) : Int)) (Y := (((LL w).length : Nat) : Int)) (tgt := 53) hx hb dX0_using_22 (by decide) (nI_toInt (by omega)) (nI_toInt (by omega)) (fun hc5 => ?_) (fun hc5 => ?_)
        · obtain rfl : j = (LL w).length := (by omega)
          refine lv_iload_n hx hb dX0_using_53 rfl (lv_at hl 2 rfl) ?_
          exact ret _ ((fw, tn, tx, tl, fp, ft, fk, fr, nI (LL w).length, 1)) _ _ _ _ dX0_using_54 (rfl) (⟨(aUsing_0 hi5).symm, ⟨ho, hw, hq, Or.inr ⟨rfl, hL, rfl⟩⟩⟩) hP hD hS
        · have hj2 : j < (LL w).length := by omega
          have hg := LL_lt w _ (getD_mem hj2)
          refine lv_iload_n hx hb dX0_using_25 rfl (lv_at hl 2 rfl) ?_
          refine lv_aload_n hx hb dX0_using_26 rfl (lv_at hl 0 rfl) ?_
          refine lv_aload_n hx hb dX0_using_27 rfl (lv_at hl 0 rfl) ?_
          refine va_get (D := D) (ci := 0) (v := .ref (g 4)) (C := RX0) (T := TX0) (N := 10) hx hb hts in_X0 hown hK hP 0 rfl rfl 3 (by decide) (hts _ q38) (fun _ h9 => h9) rfl dX0_using_28 ?_
          refine lv_iload_n hx hb dX0_using_31 rfl (lv_at hl 3 rfl) ?_
          refine xald hx hb hK hP 4 0 rfl rfl (j) (rfl) (by omega) (by decide) dX0_using_32 ?_
          refine tpi (y := nI ((LL w).getD j 0)) (hL j hj2) ?_
          refine lv_iload_n hx hb dX0_using_33 rfl (lv_at hl 1 rfl) ?_
          refine cRO (As := [.int (nI ((LL w).getD j 0)), .int (nI i)]) (rest := [.int (nI (usk (LL w) i j))]) S (metX0_digit (c := (LL w).getD j 0) (i := i) hq (by omega) hi5) (cwV 2 hts (lw_V q93 q95 qs1 q25 q96) rfl rfl rfl (by decide +kernel) ⟨Nat.le_of_ble_eq_true rfl, Nat.le_of_ble_eq_true rfl⟩) hK hP hS hA rfl rfl rfl hl.1 rfl (Nat.le_of_ble_eq_true rfl) dX0_using_34 ⟨Nat.zero_le _, Nat.zero_le _⟩ (fun r9 H locs hr hP hS => ?_)
          obtain rfl : r9 = nI (dg ((LL w).getD j 0) i) := hr
          have hdl := dg_lt ((LL w).getD j 0) i
          refine z0_le (X := ((dg ((LL w).getD j 0) i : Nat) : Int)) (tgt := 44) hx hb dX0_using_37 (by decide) (nI_toInt (by omega)) (fun hd => ?_) (fun hd => ?_)
          · refine lv_iconst (v := 0) hx hb dX0_using_44 (by decide) ?_
            refine lv_iadd hx hb dX0_using_45 ?_
            refine tpi (y := nI (usk (LL w) i (j + 1))) (usk_0 (by omega)) ?_
            refine lv_istore_n (lv' := [(2, .int (nI (usk (LL w) i (j + 1)))), (0, .ref (g 0)), (1, .int (nI i)), (3, .int (nI j))]) hx hb dX0_using_46 rfl hl (by decide) rfl (fun ls hl => ?_)
            refine lv_iinc (v := nI (j + 1)) (lv' := [(3, .int (nI (j + 1))), (2, .int (nI (usk (LL w) i (j + 1)))), (0, .ref (g 0)), (1, .int (nI i))]) hx hb dX0_using_47 hl (k := 3) rfl (nI_1 _) (by decide) rfl (fun ls hl => ?_)
            refine lv_goto (tgt := 17) hx hb dX0_using_50 (by decide) ?_
            exact ih (j + 1) _ _ _ (by omega) (by omega) hP hD hS (lv_sub hl [2, 3, 1, 0] rfl)
          · refine lv_iconst (v := 1) hx hb dX0_using_40 (by decide) ?_
            refine lv_goto (tgt := 45) hx hb dX0_using_41 (by decide) ?_
            refine lv_iadd hx hb dX0_using_45 ?_
            refine tpi (y := nI (usk (LL w) i (j + 1))) (usk_1 (by omega)) ?_
            refine lv_istore_n (lv' := [(2, .int (nI (usk (LL w) i (j + 1)))), (0, .ref (g 0)), (1, .int (nI i)), (3, .int (nI j))]) hx hb dX0_using_46 rfl hl (by decide) rfl (fun ls hl => ?_)
            refine lv_iinc (v := nI (j + 1)) (lv' := [(3, .int (nI (j + 1))), (2, .int (nI (usk (LL w) i (j + 1)))), (0, .ref (g 0)), (1, .int (nI i))]) hx hb dX0_using_47 hl (k := 3) rfl (nI_1 _) (by decide) rfl (fun ls hl => ?_)
            refine lv_goto (tgt := 17) hx hb dX0_using_50 (by decide) ?_
            exact ih (j + 1) _ _ _ (by omega) (by omega) hP hD hS (lv_sub hl [2, 3, 1, 0] rfl)
    exact lp _ 0 _ _ _ (Nat.lt_succ_self _) (by omega) hP hD hS (lv_sub hl [2, 3, 1, 0] rfl)
  · refine lv_iconst (v := -1) hx hb dX0_using_7 (by decide) ?_
    exact ret _ ((fw, fn, fx, fl, fp, ft, fk, fr, cnt, cur)) _ _ _ _ dX0_using_8 (rfl) (⟨(if_neg (of_decide_eq_false hc)).symm, ⟨ho, hw, hq, hi⟩⟩) hP hD hS
abbrev rX0_longest : Room := { frames := 6, cells := 0, slots := 0, locals := 136 }
set_option maxHeartbeats 4000000 in
set_option maxRecDepth 100000 in
theorem metX0_longest {l : Launch} {D : va_G} {d : ClassId} {g : Nat → Nat} {fw fn fx fl fp ft fk fr : Nat → Int32} {cnt cur : Int32} {hz : Nat} {w : Nat → Int} (hI : InvB w (fw, fn, fx, fl, fp, ft, fk, fr, cnt, cur)) : mIO l yX0_longest cX0_longest 4 .int rX0_longest [.ref (g 0)] D d (wB g d fw fn fx fl fp ft fk fr cnt cur) hz (S := SB) (fun r u => r = aLongest w ∧ InvB w u) (fun u => wSB g d u) := by
  refine mIO.ofW (by decide) (Nat.le_of_ble_eq_true rfl) ?_
  intro p e s m args below meth mc Q A ls S hP hK hA hS hl hD ret
  have S : CallFix p m mc cX0_longest 4 s args lw_all RX0 := S
  have hx := S.1
  have hb := S.2.1
  have hown := S.2.2.2.1
  have hts := S.2.2.2.2
  have hl : lv_has ls 4 [(0, .ref (g 0))] := hl
  obtain ⟨ho, hw, hq, hi⟩ := hI
  have hw : hww fw w := hw
  have hq : okp fp := hq
  have hi : cur = 0 ∨ (cur = 1 ∧ hli fl (LL w) ∧ cnt = nI (LL w).length) := hi
  refine lv_aload_n hx hb dX0_longest_0 rfl (lv_at hl 0 rfl) ?_
  refine cVO (As := []) (rest := []) S (metX0_refresh (w := w) hq hw ho hi) (cwV 0 hts (lw_V q101 q103 qs2 q25 q104) rfl rfl rfl (by decide +kernel) ⟨Nat.le_of_ble_eq_true rfl, Nat.le_of_ble_eq_true rfl⟩) hK hP hD hS hA rfl rfl rfl hl.1 rfl (Nat.le_of_ble_eq_true rfl) dX0_longest_1 ⟨Nat.zero_le _, Nat.zero_le _⟩ (fun u H locs hu hP hD hS => ?_)
  obtain ⟨tn, tx, tl⟩ := u
  have hL : hli tl (LL w) := hu
  have hlen := LL_len w
  have hP : va_P D vwCl (wB g d fw tn tx tl fp ft fk fr (nI (LL w).length) 1) H := hP
  have hD : va_D A (wB g d fw tn tx tl fp ft fk fr (nI (LL w).length) 1) := hD
  refine lv_iconst (v := 0) hx hb dX0_longest_4 (by decide) ?_
  refine lv_istore_n (lv' := [(1, .int 0), (0, .ref (g 0))]) hx hb dX0_longest_5 rfl hl (by decide) rfl (fun ls hl => ?_)
  refine lv_iconst (v := 0) hx hb dX0_longest_6 (by decide) ?_
  refine lv_istore_n (lv' := [(2, .int 0), (1, .int 0), (0, .ref (g 0))]) hx hb dX0_longest_7 rfl hl (by decide) rfl (fun ls hl => ?_)
  have lp : ∀ (k : Nat) (j : Nat) (H : Heap) (locs : List Loc) (ls : Array Slot), (LL w).length - j < k → j ≤ (LL w).length → va_P D vwCl (wB g d fw tn tx tl fp ft fk fr (nI (LL w).length) 1) H → va_D A (wB g d fw tn tx tl fp ft fk fr (nI (LL w).length) 1) → va_S A s.heap H locs → lv_has ls 4 [(0, .ref (g 0)), (1, .int (nI (lok (LL w) j))), (2, .int (nI j))] → W p l e rX0_longest s m args below meth mc H locs 0 0 Q (F0 m 8 ls []) := by
    intro k
    induction k with
    | zero =>
      intro j H locs ls hk
      exact absurd hk (Nat.not_lt_zero _)
    | succ k ih =>
      intro j H locs ls hk hj hP hD hS hl
      have hlk := lok_le (LL w) j
      refine lv_iload_n hx hb dX0_longest_8 rfl (lv_at hl 2 rfl) ?_
      refine lv_aload_n hx hb dX0_longest_9 rfl (lv_at hl 0 rfl) ?_
      refine va_get (D := D) (ci := 0) (v := .int (nI (LL w).length)) (C := RX0) (T := TX0) (N := 10) hx hb hts in_X0 hown hK hP 0 rfl rfl 8 (by decide) (hts _ q43) (fun _ h9 => h9) rfl dX0_longest_10 ?_
      refine z_ge (X := ((j : Nat) : Int)) (Y := (((LL w).length : Nat) : Int)) (tgt := 44) hx hb dX0_longest_13 (by decide) (nI_toInt (by omega)) (nI_toInt (by omega)) (fun hc5 => ?_) (fun hc5 => ?_)
      · obtain rfl : j = (LL w).length := (by omega)
        refine lv_iload_n hx hb dX0_longest_44 rfl (lv_at hl 1 rfl) ?_
        exact ret _ ((fw, tn, tx, tl, fp, ft, fk, fr, nI (LL w).length, 1)) _ _ _ _ dX0_longest_45 (rfl) (⟨rfl, ⟨ho, hw, hq, Or.inr ⟨rfl, hL, rfl⟩⟩⟩) hP hD hS
      · have hj2 : j < (LL w).length := by omega
        have hg := LL_lt w _ (getD_mem hj2)
        have hsl := sz_le ((LL w).getD j 0)
        refine lv_aload_n hx hb dX0_longest_16 rfl (lv_at hl 0 rfl) ?_
        refine lv_aload_n hx hb dX0_longest_17 rfl (lv_at hl 0 rfl) ?_
        refine va_get (D := D) (ci := 0) (v := .ref (g 4)) (C := RX0) (T := TX0) (N := 10) hx hb hts in_X0 hown hK hP 0 rfl rfl 3 (by decide) (hts _ q38) (fun _ h9 => h9) rfl dX0_longest_18 ?_
        refine lv_iload_n hx hb dX0_longest_21 rfl (lv_at hl 2 rfl) ?_
        refine xald hx hb hK hP 4 0 rfl rfl (j) (rfl) (by omega) (by decide) dX0_longest_22 ?_
        refine tpi (y := nI ((LL w).getD j 0)) (hL j hj2) ?_
        refine cRO (As := [.int (nI ((LL w).getD j 0))]) (rest := []) S (metX0_sizeOf (c := (LL w).getD j 0) hq (by omega)) (cwV 1 hts (lw_V q149 q151 qs10 q25 q152) rfl rfl rfl (by decide +kernel) ⟨Nat.le_of_ble_eq_true rfl, Nat.le_of_ble_eq_true rfl⟩) hK hP hS hA rfl rfl rfl hl.1 rfl (Nat.le_of_ble_eq_true rfl) dX0_longest_23 ⟨Nat.zero_le _, Nat.zero_le _⟩ (fun r9 H locs hr hP hS => ?_)
        obtain rfl : r9 = nI (sz ((LL w).getD j 0)) := hr
        refine lv_istore_n (lv' := [(3, .int (nI (sz ((LL w).getD j 0)))), (0, .ref (g 0)), (1, .int (nI (lok (LL w) j))), (2, .int (nI j))]) hx hb dX0_longest_26 rfl hl (by decide) rfl (fun ls hl => ?_)
        refine lv_iload_n hx hb dX0_longest_27 rfl (lv_at hl 0 rfl) ?_
        refine lv_iload_n hx hb dX0_longest_28 rfl (lv_at hl 2 rfl) ?_
        refine z_le (X := ((sz ((LL w).getD j 0) : Nat) : Int)) (Y := ((lok (LL w) j : Nat) : Int)) (tgt := 36) hx hb dX0_longest_29 (by decide) (nI_toInt (by omega)) (nI_toInt (by omega)) (fun hd => ?_) (fun hd => ?_)
        · refine lv_iload_n hx hb dX0_longest_36 rfl (lv_at hl 2 rfl) ?_
          refine tpi (y := nI (lok (LL w) (j + 1))) (lok_0 (by omega)) ?_
          refine lv_istore_n (lv' := [(1, .int (nI (lok (LL w) (j + 1)))), (3, .int (nI (sz ((LL w).getD j 0)))), (0, .ref (g 0)), (2, .int (nI j))]) hx hb dX0_longest_37 rfl hl (by decide) rfl (fun ls hl => ?_)
          refine lv_iinc (v := nI (j + 1)) (lv' := [(2, .int (nI (j + 1))), (1, .int (nI (lok (LL w) (j + 1)))), (3, .int (nI (sz ((LL w).getD j 0)))), (0, .ref (g 0))]) hx hb dX0_longest_38 hl (k := 3) rfl (nI_1 _) (by decide) rfl (fun ls hl => ?_)
          refine lv_goto (tgt := 8) hx hb dX0_longest_41 (by decide) ?_
          exact ih (j + 1) _ _ _ (by omega) (by omega) hP hD hS (lv_sub hl [3, 1, 0] rfl)
        · refine lv_iload_n hx hb dX0_longest_32 rfl (lv_at hl 0 rfl) ?_
          refine lv_goto (tgt := 37) hx hb dX0_longest_33 (by decide) ?_
          refine tpi (y := nI (lok (LL w) (j + 1))) (lok_1 (by omega)) ?_
          refine lv_istore_n (lv' := [(1, .int (nI (lok (LL w) (j + 1)))), (3, .int (nI (sz ((LL w).getD j 0)))), (0, .ref (g 0)), (2, .int (nI j))]) hx hb dX0_longest_37 rfl hl (by decide) rfl (fun ls hl => ?_)
          refine lv_iinc (v := nI (j + 1)) (lv' := [(2, .int (nI (j + 1))), (1, .int (nI (lok (LL w) (j + 1)))), (3, .int (nI (sz ((LL w).getD j 0)))), (0, .ref (g 0))]) hx hb dX0_longest_38 hl (k := 3) rfl (nI_1 _) (by decide) rfl (fun ls hl => ?_)
          refine lv_goto (tgt := 8) hx hb dX0_longest_41 (by decide) ?_
          exact ih (j + 1) _ _ _ (by omega) (by omega) hP hD hS (lv_sub hl [3, 1, 0] rfl)
  exact lp _ 0 _ _ _ (Nat.lt_succ_self _) (by omega) hP hD hS (lv_sub hl [2, 1, 0] rfl)
abbrev rX0_balances : Room := { frames := 1, cells := 0, slots := 0, locals := 24 }
set_option maxHeartbeats 4000000 in
set_option maxRecDepth 100000 in
theorem metX0_balances {l : Launch} {D : va_G} {d : ClassId} {g : Nat → Nat} {fw fn fx fl fp ft fk fr : Nat → Int32} {cnt cur : Int32} {hz : Nat} {w : Nat → Int} {x : Int32} (hI : InvB w (fw, fn, fx, fl, fp, ft, fk, fr, cnt, cur)) : mIO l yX0_balances cX0_balances 4 .int rX0_balances [.ref (g 0), .int x] D d (wB g d fw fn fx fl fp ft fk fr cnt cur) hz (S := SB) (fun r u => r = aBal w x ∧ InvB w u) (fun u => wSB g d u) := by
  refine mIO.ofW (by decide) (Nat.le_of_ble_eq_true rfl) ?_
  intro p e s m args below meth mc Q A ls S hP hK hA hS hl hD ret
  have S : CallFix p m mc cX0_balances 4 s args lw_all RX0 := S
  have hx := S.1
  have hb := S.2.1
  have hown := S.2.2.2.1
  have hts := S.2.2.2.2
  have hl : lv_has ls 4 [(0, .ref (g 0)), (1, .int x)] := hl
  obtain ⟨ho, hw, hq, hi⟩ := hI
  have hw : hww fw w := hw
  have hq : okp fp := hq
  have hi : cur = 0 ∨ (cur = 1 ∧ hli fl (LL w) ∧ cnt = nI (LL w).length) := hi
  refine lv_iload_n hx hb dX0_balances_0 rfl (lv_at hl 1 rfl) ?_
  refine z0_lt (X := x.toInt) (tgt := 10) hx hb dX0_balances_1 (by decide) rfl (fun hc1 => ?_) (fun hc1 => ?_)
  · refine lv_iconst (v := -1) hx hb dX0_balances_10 (by decide) ?_
    exact ret _ ((fw, fn, fx, fl, fp, ft, fk, fr, cnt, cur)) _ _ _ _ dX0_balances_11 (rfl) (⟨(if_neg (by omega)).symm, ⟨ho, hw, hq, hi⟩⟩) hP hD hS
  · refine lv_iload_n hx hb dX0_balances_4 rfl (lv_at hl 1 rfl) ?_
    refine lv_bipush (v := 21) hx hb dX0_balances_5 (by decide) ?_
    refine z_lt (X := x.toInt) (Y := 21) (tgt := 12) hx hb dX0_balances_7 (by decide) rfl (by decide) (fun hc2 => ?_) (fun hc2 => ?_)
    · obtain ⟨n, hn, rfl⟩ := of_range (N := 21) (x := x) (by omega)
      have lpI : ∀ (k : Nat) (i : Nat) (tt : Nat → Int32) (H : Heap) (locs : List Loc) (ls : Array Slot), 5 - i < k → i ≤ 5 → tabr tt (ct w i) → va_P D vwCl (wB g d fw fn fx fl fp tt fk fr cnt cur) H → va_D A (wB g d fw fn fx fl fp tt fk fr cnt cur) → va_S A s.heap H locs → lv_has ls 4 [(0, .ref (g 0)), (1, .int (nI n)), (2, .int (nI i))] → W p l e rX0_balances s m args below meth mc H locs 0 0 Q (F0 m 44 ls []) := by
        intro k
        induction k with
        | zero =>
          intro i tt H locs ls hk
          exact absurd hk (Nat.not_lt_zero _)
        | succ k ih =>
          intro i tt H locs ls hk hi5 hT hP hD hS hl
          refine lv_iload_n hx hb dX0_balances_44 rfl (lv_at hl 2 rfl) ?_
          refine lv_iconst (v := 5) hx hb dX0_balances_45 (by decide) ?_
          refine z_ge (X := ((i : Nat) : Int)) (Y := 5) (tgt := 75) hx hb dX0_balances_46 (by decide) (nI_toInt (by omega)) (by decide) (fun hc6 => ?_) (fun hc6 => ?_)
          · obtain rfl : i = 5 := (by omega)
            refine lv_aload_n hx hb dX0_balances_75 rfl (lv_at hl 0 rfl) ?_
            refine va_get (D := D) (ci := 0) (v := .ref (g 6)) (C := RX0) (T := TX0) (N := 10) hx hb hts in_X0 hown hK hP 0 rfl rfl 5 (by decide) (hts _ q40) (fun _ h9 => h9) rfl dX0_balances_76 ?_
            refine lv_sipush (v := 241) hx hb dX0_balances_79 (by decide) ?_
            refine lv_iload_n hx hb dX0_balances_82 rfl (lv_at hl 1 rfl) ?_
            refine lv_imul hx hb dX0_balances_83 ?_
            refine tpi (y := nI (241 * n)) (pk_mul 241 n) ?_
            refine lv_bipush (v := 120) hx hb dX0_balances_84 (by decide) ?_
            refine lv_iadd hx hb dX0_balances_86 ?_
            refine tpi (y := nI (241 * n + 120)) (nI_add _ 120) ?_
            refine xald hx hb hK hP 6 0 rfl rfl (241 * n + 120) (rfl) (by omega) (by decide) dX0_balances_87 ?_
            refine tpi (y := nI (ct w 5 n 0)) (hT n (by omega) 120 (by omega)) ?_
            exact ret _ ((fw, fn, fx, fl, fp, tt, fk, fr, cnt, cur)) _ _ _ _ dX0_balances_88 (rfl) (⟨(aBal_0 hn).symm, ⟨ho, hw, hq, hi⟩⟩) hP hD hS
          · have lpS : ∀ (k : Nat) (q : Nat) (t2 : Nat → Int32) (H : Heap) (locs : List Loc) (ls : Array Slot), 21 - q < k → 1 ≤ q → q ≤ 21 → tabq t2 w i q → va_P D vwCl (wB g d fw fn fx fl fp t2 fk fr cnt cur) H → va_D A (wB g d fw fn fx fl fp t2 fk fr cnt cur) → va_S A s.heap H locs → lv_has ls 4 [(0, .ref (g 0)), (1, .int (nI n)), (2, .int (nI i)), (3, .int (nI q))] → W p l e rX0_balances s m args below meth mc H locs 0 0 Q (F0 m 51 ls []) := by
              intro k
              induction k with
              | zero =>
                intro q t2 H locs ls hk
                exact absurd hk (Nat.not_lt_zero _)
              | succ k ih2 =>
                intro q t2 H locs ls hk hq1 hq2 hT2 hP hD hS hl
                refine lv_iload_n hx hb dX0_balances_51 rfl (lv_at hl 3 rfl) ?_
                refine lv_bipush (v := 21) hx hb dX0_balances_52 (by decide) ?_
                refine z_ge (X := ((q : Nat) : Int)) (Y := 21) (tgt := 69) hx hb dX0_balances_54 (by decide) (nI_toInt (by omega)) (by decide) (fun hc7 => ?_) (fun hc7 => ?_)
                · obtain rfl : q = 21 := (by omega)
                  refine lv_iinc (v := nI (i + 1)) (lv' := [(2, .int (nI (i + 1))), (0, .ref (g 0)), (1, .int (nI n)), (3, .int (nI 21))]) hx hb dX0_balances_69 hl (k := 2) rfl (nI_1 _) (by decide) rfl (fun ls hl => ?_)
                  refine lv_goto (tgt := 44) hx hb dX0_balances_72 (by decide) ?_
                  exact ih (i + 1) t2 _ _ _ (by omega) (by omega) (tabq_end hT2) hP hD hS (lv_sub hl [1, 2, 0] rfl)
                · refine lv_aload_n hx hb dX0_balances_57 rfl (lv_at hl 0 rfl) ?_
                  refine lv_iload_n hx hb dX0_balances_58 rfl (lv_at hl 2 rfl) ?_
                  refine lv_iload_n hx hb dX0_balances_59 rfl (lv_at hl 3 rfl) ?_
                  refine cVO (As := [.int (nI i), .int (nI q)]) (rest := []) S (metX0_addUnit (i := i) (n := q) (w := w) hw ho (by omega) (by omega) (by omega)) (cwV 2 hts (lw_V q157 q159 qs11 q25 q160) rfl rfl rfl (by decide +kernel) ⟨Nat.le_of_ble_eq_true rfl, Nat.le_of_ble_eq_true rfl⟩) hK hP hD hS hA rfl rfl rfl hl.1 rfl (Nat.le_of_ble_eq_true rfl) dX0_balances_60 ⟨Nat.zero_le _, Nat.zero_le _⟩ (fun u H locs hu hP hD hS => ?_)
                  obtain ⟨t3, rfl⟩ : ∃ z, z = u := ⟨_, rfl⟩
                  have hP : va_P D vwCl (wB g d fw fn fx fl fp t3 fk fr cnt cur) H := hP
                  have hD : va_D A (wB g d fw fn fx fl fp t3 fk fr cnt cur) := hD
                  refine lv_iinc (v := nI (q + 1)) (lv' := [(3, .int (nI (q + 1))), (0, .ref (g 0)), (1, .int (nI n)), (2, .int (nI i))]) hx hb dX0_balances_63 hl (k := 3) rfl (nI_1 _) (by decide) rfl (fun ls hl => ?_)
                  refine lv_goto (tgt := 51) hx hb dX0_balances_66 (by decide) ?_
                  exact ih2 (q + 1) t3 _ _ _ (by omega) (by omega) (by omega) (tabq_step ho (by omega) (by omega) (by omega) hT2 hu) hP hD hS (lv_sub hl [1, 2, 3, 0] rfl)
            refine lv_iconst (v := 1) hx hb dX0_balances_49 (by decide) ?_
            refine lv_istore_n (lv' := [(3, .int 1), (0, .ref (g 0)), (1, .int (nI n)), (2, .int (nI i))]) hx hb dX0_balances_50 rfl hl (by decide) rfl (fun ls hl => ?_)
            exact lpS _ 1 tt _ _ _ (Nat.lt_succ_self _) (by omega) (by omega) (tabq_start hT) hP hD hS (lv_sub hl [1, 2, 3, 0] rfl)
      have lpZ : ∀ (k : Nat) (j : Nat) (tt : Nat → Int32) (H : Heap) (locs : List Loc) (ls : Array Slot), 5061 - j < k → j ≤ 5061 → (∀ k, k < j → tt k = 0) → va_P D vwCl (wB g d fw fn fx fl fp tt fk fr cnt cur) H → va_D A (wB g d fw fn fx fl fp tt fk fr cnt cur) → va_S A s.heap H locs → lv_has ls 4 [(0, .ref (g 0)), (1, .int (nI n)), (2, .int (nI j))] → W p l e rX0_balances s m args below meth mc H locs 0 0 Q (F0 m 14 ls []) := by
        intro k
        induction k with
        | zero =>
          intro j tt H locs ls hk
          exact absurd hk (Nat.not_lt_zero _)
        | succ k ih =>
          intro j tt H locs ls hk hj hz0 hP hD hS hl
          refine lv_iload_n hx hb dX0_balances_14 rfl (lv_at hl 2 rfl) ?_
          refine lv_sipush (v := 5061) hx hb dX0_balances_15 (by decide) ?_
          refine z_ge (X := ((j : Nat) : Int)) (Y := 5061) (tgt := 34) hx hb dX0_balances_18 (by decide) (nI_toInt (by omega)) (by decide) (fun hc5 => ?_) (fun hc5 => ?_)
          · refine lv_aload_n hx hb dX0_balances_34 rfl (lv_at hl 0 rfl) ?_
            refine va_get (D := D) (ci := 0) (v := .ref (g 6)) (C := RX0) (T := TX0) (N := 10) hx hb hts in_X0 hown hK hP 0 rfl rfl 5 (by decide) (hts _ q40) (fun _ h9 => h9) rfl dX0_balances_35 ?_
            refine lv_bipush (v := 120) hx hb dX0_balances_38 (by decide) ?_
            refine lv_iconst (v := 1) hx hb dX0_balances_40 (by decide) ?_
            refine xast (x := 1) hx hb hK hP hD hS 6 0 rfl rfl (120) (rfl) (by decide) (by decide) dX0_balances_41 (fun H locs hP hD hS => ?_)
            have hP : va_P D vwCl (wB g d fw fn fx fl fp (upd tt 120 1) fk fr cnt cur) H := hP
            have hD : va_D A (wB g d fw fn fx fl fp (upd tt 120 1) fk fr cnt cur) := hD
            refine lv_iconst (v := 0) hx hb dX0_balances_42 (by decide) ?_
            refine lv_istore_n (lv' := [(2, .int 0), (0, .ref (g 0)), (1, .int (nI n))]) hx hb dX0_balances_43 rfl hl (by decide) rfl (fun ls hl => ?_)
            exact lpI _ 0 (upd tt 120 1) _ _ _ (Nat.lt_succ_self _) (by omega) (tabr_base (fun k hk => hz0 k (by omega))) hP hD hS (lv_sub hl [1, 2, 0] rfl)
          · refine lv_aload_n hx hb dX0_balances_21 rfl (lv_at hl 0 rfl) ?_
            refine va_get (D := D) (ci := 0) (v := .ref (g 6)) (C := RX0) (T := TX0) (N := 10) hx hb hts in_X0 hown hK hP 0 rfl rfl 5 (by decide) (hts _ q40) (fun _ h9 => h9) rfl dX0_balances_22 ?_
            refine lv_iload_n hx hb dX0_balances_25 rfl (lv_at hl 2 rfl) ?_
            refine lv_iconst (v := 0) hx hb dX0_balances_26 (by decide) ?_
            refine xast (x := 0) hx hb hK hP hD hS 6 0 rfl rfl (j) (rfl) (by omega) (by decide) dX0_balances_27 (fun H locs hP hD hS => ?_)
            have hP : va_P D vwCl (wB g d fw fn fx fl fp (upd tt j 0) fk fr cnt cur) H := hP
            have hD : va_D A (wB g d fw fn fx fl fp (upd tt j 0) fk fr cnt cur) := hD
            refine lv_iinc (v := nI (j + 1)) (lv' := [(2, .int (nI (j + 1))), (0, .ref (g 0)), (1, .int (nI n))]) hx hb dX0_balances_28 hl (k := 2) rfl (nI_1 _) (by decide) rfl (fun ls hl => ?_)
            refine lv_goto (tgt := 14) hx hb dX0_balances_31 (by decide) ?_
            exact ih (j + 1) (upd tt j 0) _ _ _ (by omega) (by omega) (fun k hk => upd_0 hz0 k hk) hP hD hS (lv_sub hl [1, 2, 0] rfl)
      refine lv_iconst (v := 0) hx hb dX0_balances_12 (by decide) ?_
      refine lv_istore_n (lv' := [(2, .int 0), (0, .ref (g 0)), (1, .int (nI n))]) hx hb dX0_balances_13 rfl hl (by decide) rfl (fun ls hl => ?_)
      exact lpZ _ 0 ft _ _ _ (Nat.lt_succ_self _) (by omega) (fun k hk => absurd hk (Nat.not_lt_zero _)) hP hD hS (lv_sub hl [1, 2, 0] rfl)
    · refine lv_iconst (v := -1) hx hb dX0_balances_10 (by decide) ?_
      exact ret _ ((fw, fn, fx, fl, fp, ft, fk, fr, cnt, cur)) _ _ _ _ dX0_balances_11 (rfl) (⟨(if_neg (by omega)).symm, ⟨ho, hw, hq, hi⟩⟩) hP hD hS
abbrev rX0_fewest : Room := { frames := 6, cells := 0, slots := 0, locals := 136 }
set_option maxHeartbeats 4000000 in
set_option maxRecDepth 100000 in
theorem metX0_fewest {l : Launch} {D : va_G} {d : ClassId} {g : Nat → Nat} {fw fn fx fl fp ft fk fr : Nat → Int32} {cnt cur : Int32} {hz : Nat} {w : Nat → Int} {x : Int32} (hI : InvB w (fw, fn, fx, fl, fp, ft, fk, fr, cnt, cur)) : mIO l yX0_fewest cX0_fewest 2 .int rX0_fewest [.ref (g 0), .int x] D d (wB g d fw fn fx fl fp ft fk fr cnt cur) hz (S := SB) (fun r u => r = aFew w x ∧ InvB w u) (fun u => wSB g d u) := by
  refine mIO.ofW (by decide) (Nat.le_of_ble_eq_true rfl) ?_
  intro p e s m args below meth mc Q A ls S hP hK hA hS hl hD ret
  have S : CallFix p m mc cX0_fewest 2 s args lw_all RX0 := S
  have hx := S.1
  have hb := S.2.1
  have hown := S.2.2.2.1
  have hts := S.2.2.2.2
  have hl : lv_has ls 2 [(0, .ref (g 0)), (1, .int x)] := hl
  obtain ⟨ho, hw, hq, hi⟩ := hI
  have hw : hww fw w := hw
  have hq : okp fp := hq
  have hi : cur = 0 ∨ (cur = 1 ∧ hli fl (LL w) ∧ cnt = nI (LL w).length) := hi
  refine lv_iload_n hx hb dX0_fewest_0 rfl (lv_at hl 1 rfl) ?_
  refine cROs (As := [.int x]) (rest := []) S (metX0_isCode (x := x)) (va_cwS 1 hts (lw_S q86 q87 q25 q88) rfl rfl rfl (by decide +kernel) ⟨Nat.le_of_ble_eq_true rfl, Nat.le_of_ble_eq_true rfl⟩) hK hP hS hA rfl hl.1 rfl (Nat.le_of_ble_eq_true rfl) dX0_fewest_1 ⟨Nat.zero_le _, Nat.zero_le _⟩ (fun r9 H locs hr hP hS => ?_)
  obtain rfl : r9 = bI (decide (0 ≤ x.toInt ∧ x.toInt < 16807)) := hr
  refine b_ne (b := decide (0 ≤ x.toInt ∧ x.toInt < 16807)) (tgt := 9) hx hb dX0_fewest_4 (by decide) (fun hc => ?_) (fun hc => ?_)
  · obtain ⟨c, hc0, rfl⟩ := of_range (N := 16807) (of_decide_eq_true hc)
    have hbd := sm_bound ho c
    refine lv_aload_n hx hb dX0_fewest_9 rfl (lv_at hl 0 rfl) ?_
    refine lv_iload_n hx hb dX0_fewest_10 rfl (lv_at hl 1 rfl) ?_
    refine cRO (As := [.int (nI c)]) (rest := []) S (metX0_sumOf (c := c) (w := w) hq hw (by omega)) (cwV 1 hts (lw_V q89 q91 qs0 q25 q92) rfl rfl rfl (by decide +kernel) ⟨Nat.le_of_ble_eq_true rfl, Nat.le_of_ble_eq_true rfl⟩) hK hP hS hA rfl rfl rfl hl.1 rfl (Nat.le_of_ble_eq_true rfl) dX0_fewest_11 ⟨Nat.zero_le _, Nat.zero_le _⟩ (fun r9 H locs hr hP hS => ?_)
    obtain rfl : r9 = iI (sm w c) := hr
    refine z0_eq (X := (sm w c)) (tgt := 20) hx hb dX0_fewest_14 (by decide) (iI_toInt (by omega) (by omega)) (fun hs => ?_) (fun hs => ?_)
    · refine lv_aload_n hx hb dX0_fewest_20 rfl (lv_at hl 0 rfl) ?_
      refine cVO (As := []) (rest := []) S (metX0_refresh (w := w) hq hw ho hi) (cwV 0 hts (lw_V q101 q103 qs2 q25 q104) rfl rfl rfl (by decide +kernel) ⟨Nat.le_of_ble_eq_true rfl, Nat.le_of_ble_eq_true rfl⟩) hK hP hD hS hA rfl rfl rfl hl.1 rfl (Nat.le_of_ble_eq_true rfl) dX0_fewest_21 ⟨Nat.zero_le _, Nat.zero_le _⟩ (fun u H locs hu hP hD hS => ?_)
      obtain ⟨tn, tx, tl⟩ := u
      have hL : hli tl (LL w) := hu
      have hlen := LL_len w
      have hP : va_P D vwCl (wB g d fw tn tx tl fp ft fk fr (nI (LL w).length) 1) H := hP
      have hD : va_D A (wB g d fw tn tx tl fp ft fk fr (nI (LL w).length) 1) := hD
      refine lv_aload_n hx hb dX0_fewest_24 rfl (lv_at hl 0 rfl) ?_
      refine lv_iload_n hx hb dX0_fewest_25 rfl (lv_at hl 1 rfl) ?_
      refine lv_iconst (v := 1) hx hb dX0_fewest_26 (by decide) ?_
      refine tpi (y := bI true) (rfl) ?_
      refine cIO (As := [.int (nI c), .int (bI true)]) (rest := []) S (metX0_take (c := c) (b := true) (L := LL w) hq hL rfl (by omega) (LL_lt w) (LL_ok w) hc0) (cwV 2 hts (lw_V q165 q167 qs12 q25 q168) rfl rfl rfl (by decide +kernel) ⟨Nat.le_of_ble_eq_true rfl, Nat.le_of_ble_eq_true rfl⟩) hK hP hD hS hA rfl rfl rfl hl.1 rfl (Nat.le_of_ble_eq_true rfl) dX0_fewest_27 ⟨Nat.zero_le _, Nat.zero_le _⟩ (fun r9 u H locs hu hP hD hS => ?_)
      obtain ⟨tk, tr⟩ := u
      have hr : r9 = nI (min 31 (fe (LL w) c)) := hu
      have hP : va_P D vwCl (wB g d fw tn tx tl fp ft tk tr (nI (LL w).length) 1) H := hP
      have hD : va_D A (wB g d fw tn tx tl fp ft tk tr (nI (LL w).length) 1) := hD
      obtain rfl : r9 = nI (min 31 (fe (LL w) c)) := hr
      exact ret _ ((fw, tn, tx, tl, fp, ft, tk, tr, nI (LL w).length, 1)) _ _ _ _ dX0_fewest_30 (rfl) (⟨by rw [aFew_0 hc0 hs, fe_31 hc0 hs], ⟨ho, hw, hq, Or.inr ⟨rfl, hL, rfl⟩⟩⟩) hP hD hS
    · refine lv_bipush (v := -2) hx hb dX0_fewest_17 (by decide) ?_
      exact ret _ ((fw, fn, fx, fl, fp, ft, fk, fr, cnt, cur)) _ _ _ _ dX0_fewest_19 (rfl) (⟨(aFew_2 hc0 hs).symm, ⟨ho, hw, hq, hi⟩⟩) hP hD hS
  · refine lv_iconst (v := -1) hx hb dX0_fewest_7 (by decide) ?_
    exact ret _ ((fw, fn, fx, fl, fp, ft, fk, fr, cnt, cur)) _ _ _ _ dX0_fewest_8 (rfl) (⟨(if_neg (of_decide_eq_false hc)).symm, ⟨ho, hw, hq, hi⟩⟩) hP hD hS
abbrev rX0_ways : Room := { frames := 6, cells := 0, slots := 0, locals := 136 }
set_option maxHeartbeats 4000000 in
set_option maxRecDepth 100000 in
theorem metX0_ways {l : Launch} {D : va_G} {d : ClassId} {g : Nat → Nat} {fw fn fx fl fp ft fk fr : Nat → Int32} {cnt cur : Int32} {hz : Nat} {w : Nat → Int} {x : Int32} (hI : InvB w (fw, fn, fx, fl, fp, ft, fk, fr, cnt, cur)) : mIO l yX0_ways cX0_ways 2 .int rX0_ways [.ref (g 0), .int x] D d (wB g d fw fn fx fl fp ft fk fr cnt cur) hz (S := SB) (fun r u => r = aWays w x ∧ InvB w u) (fun u => wSB g d u) := by
  refine mIO.ofW (by decide) (Nat.le_of_ble_eq_true rfl) ?_
  intro p e s m args below meth mc Q A ls S hP hK hA hS hl hD ret
  have S : CallFix p m mc cX0_ways 2 s args lw_all RX0 := S
  have hx := S.1
  have hb := S.2.1
  have hown := S.2.2.2.1
  have hts := S.2.2.2.2
  have hl : lv_has ls 2 [(0, .ref (g 0)), (1, .int x)] := hl
  obtain ⟨ho, hw, hq, hi⟩ := hI
  have hw : hww fw w := hw
  have hq : okp fp := hq
  have hi : cur = 0 ∨ (cur = 1 ∧ hli fl (LL w) ∧ cnt = nI (LL w).length) := hi
  refine lv_iload_n hx hb dX0_ways_0 rfl (lv_at hl 1 rfl) ?_
  refine cROs (As := [.int x]) (rest := []) S (metX0_isCode (x := x)) (va_cwS 1 hts (lw_S q86 q87 q25 q88) rfl rfl rfl (by decide +kernel) ⟨Nat.le_of_ble_eq_true rfl, Nat.le_of_ble_eq_true rfl⟩) hK hP hS hA rfl hl.1 rfl (Nat.le_of_ble_eq_true rfl) dX0_ways_1 ⟨Nat.zero_le _, Nat.zero_le _⟩ (fun r9 H locs hr hP hS => ?_)
  obtain rfl : r9 = bI (decide (0 ≤ x.toInt ∧ x.toInt < 16807)) := hr
  refine b_ne (b := decide (0 ≤ x.toInt ∧ x.toInt < 16807)) (tgt := 9) hx hb dX0_ways_4 (by decide) (fun hc => ?_) (fun hc => ?_)
  · obtain ⟨c, hc0, rfl⟩ := of_range (N := 16807) (of_decide_eq_true hc)
    have hbd := sm_bound ho c
    refine lv_aload_n hx hb dX0_ways_9 rfl (lv_at hl 0 rfl) ?_
    refine lv_iload_n hx hb dX0_ways_10 rfl (lv_at hl 1 rfl) ?_
    refine cRO (As := [.int (nI c)]) (rest := []) S (metX0_sumOf (c := c) (w := w) hq hw (by omega)) (cwV 1 hts (lw_V q89 q91 qs0 q25 q92) rfl rfl rfl (by decide +kernel) ⟨Nat.le_of_ble_eq_true rfl, Nat.le_of_ble_eq_true rfl⟩) hK hP hS hA rfl rfl rfl hl.1 rfl (Nat.le_of_ble_eq_true rfl) dX0_ways_11 ⟨Nat.zero_le _, Nat.zero_le _⟩ (fun r9 H locs hr hP hS => ?_)
    obtain rfl : r9 = iI (sm w c) := hr
    refine z0_eq (X := (sm w c)) (tgt := 20) hx hb dX0_ways_14 (by decide) (iI_toInt (by omega) (by omega)) (fun hs => ?_) (fun hs => ?_)
    · refine lv_aload_n hx hb dX0_ways_20 rfl (lv_at hl 0 rfl) ?_
      refine cVO (As := []) (rest := []) S (metX0_refresh (w := w) hq hw ho hi) (cwV 0 hts (lw_V q101 q103 qs2 q25 q104) rfl rfl rfl (by decide +kernel) ⟨Nat.le_of_ble_eq_true rfl, Nat.le_of_ble_eq_true rfl⟩) hK hP hD hS hA rfl rfl rfl hl.1 rfl (Nat.le_of_ble_eq_true rfl) dX0_ways_21 ⟨Nat.zero_le _, Nat.zero_le _⟩ (fun u H locs hu hP hD hS => ?_)
      obtain ⟨tn, tx, tl⟩ := u
      have hL : hli tl (LL w) := hu
      have hlen := LL_len w
      have hP : va_P D vwCl (wB g d fw tn tx tl fp ft fk fr (nI (LL w).length) 1) H := hP
      have hD : va_D A (wB g d fw tn tx tl fp ft fk fr (nI (LL w).length) 1) := hD
      refine lv_aload_n hx hb dX0_ways_24 rfl (lv_at hl 0 rfl) ?_
      refine lv_iload_n hx hb dX0_ways_25 rfl (lv_at hl 1 rfl) ?_
      refine lv_iconst (v := 0) hx hb dX0_ways_26 (by decide) ?_
      refine tpi (y := bI false) (rfl) ?_
      refine cIO (As := [.int (nI c), .int (bI false)]) (rest := []) S (metX0_take (c := c) (b := false) (L := LL w) hq hL rfl (by omega) (LL_lt w) (LL_ok w) hc0) (cwV 2 hts (lw_V q165 q167 qs12 q25 q168) rfl rfl rfl (by decide +kernel) ⟨Nat.le_of_ble_eq_true rfl, Nat.le_of_ble_eq_true rfl⟩) hK hP hD hS hA rfl rfl rfl hl.1 rfl (Nat.le_of_ble_eq_true rfl) dX0_ways_27 ⟨Nat.zero_le _, Nat.zero_le _⟩ (fun r9 u H locs hu hP hD hS => ?_)
      obtain ⟨tk, tr⟩ := u
      have hr : r9 = nI (wy (LL w) c) := hu
      have hP : va_P D vwCl (wB g d fw tn tx tl fp ft tk tr (nI (LL w).length) 1) H := hP
      have hD : va_D A (wB g d fw tn tx tl fp ft tk tr (nI (LL w).length) 1) := hD
      obtain rfl : r9 = nI (wy (LL w) c) := hr
      exact ret _ ((fw, tn, tx, tl, fp, ft, tk, tr, nI (LL w).length, 1)) _ _ _ _ dX0_ways_30 (rfl) (⟨(aWays_0 hc0 hs).symm, ⟨ho, hw, hq, Or.inr ⟨rfl, hL, rfl⟩⟩⟩) hP hD hS
    · refine lv_bipush (v := -2) hx hb dX0_ways_17 (by decide) ?_
      exact ret _ ((fw, fn, fx, fl, fp, ft, fk, fr, cnt, cur)) _ _ _ _ dX0_ways_19 (rfl) (⟨(aWays_2 hc0 hs).symm, ⟨ho, hw, hq, hi⟩⟩) hP hD hS
  · refine lv_iconst (v := -1) hx hb dX0_ways_7 (by decide) ?_
    exact ret _ ((fw, fn, fx, fl, fp, ft, fk, fr, cnt, cur)) _ _ _ _ dX0_ways_8 (rfl) (⟨(if_neg (of_decide_eq_false hc)).symm, ⟨ho, hw, hq, hi⟩⟩) hP hD hS
abbrev rX0_inside : Room := { frames := 6, cells := 0, slots := 0, locals := 136 }
set_option maxHeartbeats 4000000 in
set_option maxRecDepth 100000 in
theorem metX0_inside {l : Launch} {D : va_G} {d : ClassId} {g : Nat → Nat} {fw fn fx fl fp ft fk fr : Nat → Int32} {cnt cur : Int32} {hz : Nat} {w : Nat → Int} {x : Int32} (hI : InvB w (fw, fn, fx, fl, fp, ft, fk, fr, cnt, cur)) : mIO l yX0_inside cX0_inside 3 .int rX0_inside [.ref (g 0), .int x] D d (wB g d fw fn fx fl fp ft fk fr cnt cur) hz (S := SB) (fun r u => r = aIns w x ∧ InvB w u) (fun u => wSB g d u) := by
  refine mIO.ofW (by decide) (Nat.le_of_ble_eq_true rfl) ?_
  intro p e s m args below meth mc Q A ls S hP hK hA hS hl hD ret
  have S : CallFix p m mc cX0_inside 3 s args lw_all RX0 := S
  have hx := S.1
  have hb := S.2.1
  have hown := S.2.2.2.1
  have hts := S.2.2.2.2
  have hl : lv_has ls 3 [(0, .ref (g 0)), (1, .int x)] := hl
  obtain ⟨ho, hw, hq, hi⟩ := hI
  have hw : hww fw w := hw
  have hq : okp fp := hq
  have hi : cur = 0 ∨ (cur = 1 ∧ hli fl (LL w) ∧ cnt = nI (LL w).length) := hi
  refine lv_iload_n hx hb dX0_inside_0 rfl (lv_at hl 1 rfl) ?_
  refine cROs (As := [.int x]) (rest := []) S (metX0_isCode (x := x)) (va_cwS 1 hts (lw_S q86 q87 q25 q88) rfl rfl rfl (by decide +kernel) ⟨Nat.le_of_ble_eq_true rfl, Nat.le_of_ble_eq_true rfl⟩) hK hP hS hA rfl hl.1 rfl (Nat.le_of_ble_eq_true rfl) dX0_inside_1 ⟨Nat.zero_le _, Nat.zero_le _⟩ (fun r9 H locs hr hP hS => ?_)
  obtain rfl : r9 = bI (decide (0 ≤ x.toInt ∧ x.toInt < 16807)) := hr
  refine b_ne (b := decide (0 ≤ x.toInt ∧ x.toInt < 16807)) (tgt := 9) hx hb dX0_inside_4 (by decide) (fun hc => ?_) (fun hc => ?_)
  · obtain ⟨c, hc0, rfl⟩ := of_range (N := 16807) (of_decide_eq_true hc)
    refine lv_aload_n hx hb dX0_inside_9 rfl (lv_at hl 0 rfl) ?_
    refine cVO (As := []) (rest := []) S (metX0_refresh (w := w) hq hw ho hi) (cwV 0 hts (lw_V q101 q103 qs2 q25 q104) rfl rfl rfl (by decide +kernel) ⟨Nat.le_of_ble_eq_true rfl, Nat.le_of_ble_eq_true rfl⟩) hK hP hD hS hA rfl rfl rfl hl.1 rfl (Nat.le_of_ble_eq_true rfl) dX0_inside_10 ⟨Nat.zero_le _, Nat.zero_le _⟩ (fun u H locs hu hP hD hS => ?_)
    obtain ⟨tn, tx, tl⟩ := u
    have hL : hli tl (LL w) := hu
    have hlen := LL_len w
    have hP : va_P D vwCl (wB g d fw tn tx tl fp ft fk fr (nI (LL w).length) 1) H := hP
    have hD : va_D A (wB g d fw tn tx tl fp ft fk fr (nI (LL w).length) 1) := hD
    refine lv_iconst (v := 0) hx hb dX0_inside_13 (by decide) ?_
    refine lv_istore_n (lv' := [(2, .int 0), (0, .ref (g 0)), (1, .int (nI c))]) hx hb dX0_inside_14 rfl hl (by decide) rfl (fun ls hl => ?_)
    have lp : ∀ (k : Nat) (j : Nat) (H : Heap) (locs : List Loc) (ls : Array Slot), (LL w).length - j < k → j ≤ (LL w).length → hp ((LL w).take j) c = false → va_P D vwCl (wB g d fw tn tx tl fp ft fk fr (nI (LL w).length) 1) H → va_D A (wB g d fw tn tx tl fp ft fk fr (nI (LL w).length) 1) → va_S A s.heap H locs → lv_has ls 3 [(0, .ref (g 0)), (1, .int (nI c)), (2, .int (nI j))] → W p l e rX0_inside s m args below meth mc H locs 0 0 Q (F0 m 15 ls []) := by
      intro k
      induction k with
      | zero =>
        intro j H locs ls hk
        exact absurd hk (Nat.not_lt_zero _)
      | succ k ih =>
        intro j H locs ls hk hj ht hP hD hS hl
        refine lv_iload_n hx hb dX0_inside_15 rfl (lv_at hl 2 rfl) ?_
        refine lv_aload_n hx hb dX0_inside_16 rfl (lv_at hl 0 rfl) ?_
        refine va_get (D := D) (ci := 0) (v := .int (nI (LL w).length)) (C := RX0) (T := TX0) (N := 10) hx hb hts in_X0 hown hK hP 0 rfl rfl 8 (by decide) (hts _ q43) (fun _ h9 => h9) rfl dX0_inside_17 ?_
        refine z_ge (X := ((j : Nat) : Int)) (Y := (((LL w).length : Nat) : Int)) (tgt := 50) hx hb dX0_inside_20 (by decide) (nI_toInt (by omega)) (nI_toInt (by omega)) (fun hc5 => ?_) (fun hc5 => ?_)
        · obtain rfl : j = (LL w).length := (by omega)
          rw [List.take_length] at ht
          refine lv_bipush (v := -2) hx hb dX0_inside_50 (by decide) ?_
          exact ret _ ((fw, tn, tx, tl, fp, ft, fk, fr, nI (LL w).length, 1)) _ _ _ _ dX0_inside_52 (rfl) (⟨by rw [aIns_0 hc0]; exact (insd_none ht).symm, ⟨ho, hw, hq, Or.inr ⟨rfl, hL, rfl⟩⟩⟩) hP hD hS
        · have hj2 : j < (LL w).length := by omega
          have hg := LL_lt w _ (getD_mem hj2)
          refine lv_aload_n hx hb dX0_inside_23 rfl (lv_at hl 0 rfl) ?_
          refine lv_aload_n hx hb dX0_inside_24 rfl (lv_at hl 0 rfl) ?_
          refine va_get (D := D) (ci := 0) (v := .ref (g 4)) (C := RX0) (T := TX0) (N := 10) hx hb hts in_X0 hown hK hP 0 rfl rfl 3 (by decide) (hts _ q38) (fun _ h9 => h9) rfl dX0_inside_25 ?_
          refine lv_iload_n hx hb dX0_inside_28 rfl (lv_at hl 2 rfl) ?_
          refine xald hx hb hK hP 4 0 rfl rfl (j) (rfl) (by omega) (by decide) dX0_inside_29 ?_
          refine tpi (y := nI ((LL w).getD j 0)) (hL j hj2) ?_
          refine lv_iload_n hx hb dX0_inside_30 rfl (lv_at hl 1 rfl) ?_
          refine cRO (As := [.int (nI ((LL w).getD j 0)), .int (nI c)]) (rest := []) S (metX0_isPart (a := (LL w).getD j 0) (b := c) hq (by omega) (by omega)) (cwV 2 hts (lw_V q113 q115 qs5 q25 q116) rfl rfl rfl (by decide +kernel) ⟨Nat.le_of_ble_eq_true rfl, Nat.le_of_ble_eq_true rfl⟩) hK hP hS hA rfl rfl rfl hl.1 rfl (Nat.le_of_ble_eq_true rfl) dX0_inside_31 ⟨Nat.zero_le _, Nat.zero_le _⟩ (fun r9 H locs hr hP hS => ?_)
          obtain rfl : r9 = bI (pt ((LL w).getD j 0) c) := hr
          refine b_eq (b := pt ((LL w).getD j 0) c) (tgt := 44) hx hb dX0_inside_34 (by decide) (fun hpt => ?_) (fun hpt => ?_)
          · refine lv_iinc (v := nI (j + 1)) (lv' := [(2, .int (nI (j + 1))), (0, .ref (g 0)), (1, .int (nI c))]) hx hb dX0_inside_44 hl (k := 2) rfl (nI_1 _) (by decide) rfl (fun ls hl => ?_)
            refine lv_goto (tgt := 15) hx hb dX0_inside_47 (by decide) ?_
            exact ih (j + 1) _ _ _ (by omega) (by omega) (hp_take hj2 ht hpt) hP hD hS (lv_sub hl [1, 2, 0] rfl)
          · refine lv_aload_n hx hb dX0_inside_37 rfl (lv_at hl 0 rfl) ?_
            refine va_get (D := D) (ci := 0) (v := .ref (g 4)) (C := RX0) (T := TX0) (N := 10) hx hb hts in_X0 hown hK hP 0 rfl rfl 3 (by decide) (hts _ q38) (fun _ h9 => h9) rfl dX0_inside_38 ?_
            refine lv_iload_n hx hb dX0_inside_41 rfl (lv_at hl 2 rfl) ?_
            refine xald hx hb hK hP 4 0 rfl rfl (j) (rfl) (by omega) (by decide) dX0_inside_42 ?_
            refine tpi (y := nI ((LL w).getD j 0)) (hL j hj2) ?_
            exact ret _ ((fw, tn, tx, tl, fp, ft, fk, fr, nI (LL w).length, 1)) _ _ _ _ dX0_inside_43 (rfl) (⟨by rw [aIns_0 hc0]; exact (insd_here hj2 ht hpt).symm, ⟨ho, hw, hq, Or.inr ⟨rfl, hL, rfl⟩⟩⟩) hP hD hS
    exact lp _ 0 _ _ _ (Nat.lt_succ_self _) (by omega) rfl hP hD hS (lv_sub hl [1, 2, 0] rfl)
  · refine lv_iconst (v := -1) hx hb dX0_inside_7 (by decide) ?_
    exact ret _ ((fw, fn, fx, fl, fp, ft, fk, fr, cnt, cur)) _ _ _ _ dX0_inside_8 (rfl) (⟨(if_neg (of_decide_eq_false hc)).symm, ⟨ho, hw, hq, hi⟩⟩) hP hD hS
abbrev rX0_small : Room := { frames := 2, cells := 0, slots := 0, locals := 46 }
set_option maxHeartbeats 4000000 in
set_option maxRecDepth 100000 in
theorem metX0_small {l : Launch} {D : va_G} {d : ClassId} {g : Nat → Nat} {fw fn fx fl fp ft fk fr : Nat → Int32} {cnt cur : Int32} {hz : Nat} {w : Nat → Int} (hI : InvB w (fw, fn, fx, fl, fp, ft, fk, fr, cnt, cur)) : mIO l yX0_small cX0_small 3 .int rX0_small [.ref (g 0)] D d (wB g d fw fn fx fl fp ft fk fr cnt cur) hz (S := SB) (fun r u => r = aSmall w ∧ InvB w u) (fun u => wSB g d u) := by
  refine mIO.ofW (by decide) (Nat.le_of_ble_eq_true rfl) ?_
  intro p e s m args below meth mc Q A ls S hP hK hA hS hl hD ret
  have S : CallFix p m mc cX0_small 3 s args lw_all RX0 := S
  have hx := S.1
  have hb := S.2.1
  have hown := S.2.2.2.1
  have hts := S.2.2.2.2
  have hl : lv_has ls 3 [(0, .ref (g 0))] := hl
  obtain ⟨ho, hw, hq, hi⟩ := hI
  have hw : hww fw w := hw
  have hq : okp fp := hq
  have hi : cur = 0 ∨ (cur = 1 ∧ hli fl (LL w) ∧ cnt = nI (LL w).length) := hi
  have lp : ∀ (k : Nat) (j : Nat) (H : Heap) (locs : List Loc) (ls : Array Slot), 16807 - j < k → j ≤ 16807 → va_P D vwCl (wB g d fw fn fx fl fp ft fk fr cnt cur) H → va_D A (wB g d fw fn fx fl fp ft fk fr cnt cur) → va_S A s.heap H locs → lv_has ls 3 [(0, .ref (g 0)), (1, .int (nI (smc w j))), (2, .int (nI j))] → W p l e rX0_small s m args below meth mc H locs 0 0 Q (F0 m 4 ls []) := by
    intro k
    induction k with
    | zero =>
      intro j H locs ls hk
      exact absurd hk (Nat.not_lt_zero _)
    | succ k ih =>
      intro j H locs ls hk hj hP hD hS hl
      refine lv_iload_n hx hb dX0_small_4 rfl (lv_at hl 2 rfl) ?_
      refine lv_sipush (v := 16807) hx hb dX0_small_5 (by decide) ?_
      refine z_ge (X := ((j : Nat) : Int)) (Y := 16807) (tgt := 33) hx hb dX0_small_8 (by decide) (nI_toInt (by omega)) (by decide) (fun hc5 => ?_) (fun hc5 => ?_)
      · obtain rfl : j = 16807 := (by omega)
        refine lv_iload_n hx hb dX0_small_33 rfl (lv_at hl 1 rfl) ?_
        exact ret _ ((fw, fn, fx, fl, fp, ft, fk, fr, cnt, cur)) _ _ _ _ dX0_small_34 (rfl) (⟨rfl, ⟨ho, hw, hq, hi⟩⟩) hP hD hS
      · have hbd := sm_bound ho j
        refine lv_iload_n hx hb dX0_small_11 rfl (lv_at hl 1 rfl) ?_
        refine lv_aload_n hx hb dX0_small_12 rfl (lv_at hl 0 rfl) ?_
        refine lv_iload_n hx hb dX0_small_13 rfl (lv_at hl 2 rfl) ?_
        refine cRO (As := [.int (nI j)]) (rest := [.int (nI (smc w j))]) S (metX0_sumOf (c := j) (w := w) hq hw (by omega)) (cwV 1 hts (lw_V q89 q91 qs0 q25 q92) rfl rfl rfl (by decide +kernel) ⟨Nat.le_of_ble_eq_true rfl, Nat.le_of_ble_eq_true rfl⟩) hK hP hS hA rfl rfl rfl hl.1 rfl (Nat.le_of_ble_eq_true rfl) dX0_small_14 ⟨Nat.zero_le _, Nat.zero_le _⟩ (fun r9 H locs hr hP hS => ?_)
        obtain rfl : r9 = iI (sm w j) := hr
        refine z0_ne (X := (sm w j)) (tgt := 24) hx hb dX0_small_17 (by decide) (iI_toInt (by omega) (by omega)) (fun hs => ?_) (fun hs => ?_)
        · refine lv_iconst (v := 0) hx hb dX0_small_24 (by decide) ?_
          refine lv_iadd hx hb dX0_small_25 ?_
          refine tpi (y := nI (smc w (j + 1))) (smc_0 hs) ?_
          refine lv_istore_n (lv' := [(1, .int (nI (smc w (j + 1)))), (0, .ref (g 0)), (2, .int (nI j))]) hx hb dX0_small_26 rfl hl (by decide) rfl (fun ls hl => ?_)
          refine lv_iinc (v := nI (j + 1)) (lv' := [(2, .int (nI (j + 1))), (1, .int (nI (smc w (j + 1)))), (0, .ref (g 0))]) hx hb dX0_small_27 hl (k := 2) rfl (nI_1 _) (by decide) rfl (fun ls hl => ?_)
          refine lv_goto (tgt := 4) hx hb dX0_small_30 (by decide) ?_
          exact ih (j + 1) _ _ _ (by omega) (by omega) hP hD hS (lv_sub hl [2, 1, 0] rfl)
        · refine lv_iconst (v := 1) hx hb dX0_small_20 (by decide) ?_
          refine lv_goto (tgt := 25) hx hb dX0_small_21 (by decide) ?_
          refine lv_iadd hx hb dX0_small_25 ?_
          refine tpi (y := nI (smc w (j + 1))) (smc_1 hs) ?_
          refine lv_istore_n (lv' := [(1, .int (nI (smc w (j + 1)))), (0, .ref (g 0)), (2, .int (nI j))]) hx hb dX0_small_26 rfl hl (by decide) rfl (fun ls hl => ?_)
          refine lv_iinc (v := nI (j + 1)) (lv' := [(2, .int (nI (j + 1))), (1, .int (nI (smc w (j + 1)))), (0, .ref (g 0))]) hx hb dX0_small_27 hl (k := 2) rfl (nI_1 _) (by decide) rfl (fun ls hl => ?_)
          refine lv_goto (tgt := 4) hx hb dX0_small_30 (by decide) ?_
          exact ih (j + 1) _ _ _ (by omega) (by omega) hP hD hS (lv_sub hl [2, 1, 0] rfl)
  refine lv_iconst (v := 0) hx hb dX0_small_0 (by decide) ?_
  refine lv_istore_n (lv' := [(1, .int 0), (0, .ref (g 0))]) hx hb dX0_small_1 rfl hl (by decide) rfl (fun ls hl => ?_)
  refine lv_iconst (v := 0) hx hb dX0_small_2 (by decide) ?_
  refine lv_istore_n (lv' := [(2, .int 0), (1, .int 0), (0, .ref (g 0))]) hx hb dX0_small_3 rfl hl (by decide) rfl (fun ls hl => ?_)
  exact lp _ 0 _ _ _ (Nat.lt_succ_self _) (by omega) hP hD hS (lv_sub hl [2, 1, 0] rfl)
end
section
/-! under(code, 0), under(code, 1), ..: the rows that are part of this one, in rising order -/
set_option maxRecDepth 100000
def VV : List Nat → Nat → Nat
  | [], _ => 0
  | b :: bs, x => x % b + 7 * VV bs (x / b)
def PB : List Nat → Nat
  | [] => 1
  | b :: bs => b * PB bs
def ev : List Nat → Nat
  | [] => 0
  | e :: es => e + 7 * ev es
theorem VV_mono : ∀ (bs : List Nat), (∀ b, b ∈ bs → 0 < b ∧ b ≤ 7) → ∀ x y, x < y → y < PB bs → VV bs x < VV bs y
  | [], _, x, y, h1, h2 => by
    have h2 : y < 1 := h2
    omega
  | b :: bs, h, x, y, h1, h2 => by
    obtain ⟨b0, b7⟩ := h b List.mem_cons_self
    have ih := VV_mono bs (fun q hq => h q (List.mem_cons_of_mem _ hq))
    have h2 : y < b * PB bs := h2
    have h3 : y / b < PB bs := Nat.div_lt_of_lt_mul h2
    have m1 := Nat.mod_lt x b0
    have m2 := Nat.mod_lt y b0
    have e1 := Nat.div_add_mod x b
    have e2 := Nat.div_add_mod y b
    show x % b + 7 * VV bs (x / b) < y % b + 7 * VV bs (y / b)
    rcases Nat.lt_trichotomy (x / b) (y / b) with q | q | q
    · have := ih (x / b) (y / b) q h3
      omega
    · rw [q] at e1 ⊢
      omega
    · have := Nat.div_le_div_right (c := b) (Nat.le_of_lt h1)
      omega
theorem VV_surj : ∀ (bs es : List Nat), bs.length = es.length → (∀ i, i < bs.length → es.getD i 0 < bs.getD i 0) → ∃ x, x < PB bs ∧ VV bs x = ev es
  | [], [], _, _ => ⟨0, Nat.lt_succ_self _, rfl⟩
  | [], e :: es, h, _ => by cases h
  | b :: bs, [], h, _ => by cases h
  | b :: bs, e :: es, h, hd => by
    obtain ⟨x, hx, hv⟩ := VV_surj bs es (by simpa using h) (fun i hi => by
      have := hd (i + 1) (by simp; omega)
      simpa using this)
    have h0 : e < b := by
      have := hd 0 (by simp)
      simpa using this
    refine ⟨b * x + e, ?_, ?_⟩
    · show b * x + e < b * PB bs
      have : b * (x + 1) ≤ b * PB bs := Nat.mul_le_mul_left b hx
      rw [Nat.mul_succ] at this
      omega
    · show (b * x + e) % b + 7 * VV bs ((b * x + e) / b) = e + 7 * ev es
      have e1 : (b * x + e) % b = e := by
        rw [Nat.mul_add_mod]
        exact Nat.mod_eq_of_lt h0
      have e2 : (b * x + e) / b = x := by
        rw [Nat.mul_add_div (by omega), Nat.div_eq_of_lt h0, Nat.add_zero]
      rw [e1, e2, hv]
def ubs (c : Nat) : List Nat := [dg c 4 + 1, dg c 3 + 1, dg c 2 + 1, dg c 1 + 1, dg c 0 + 1]
theorem ubs_ok (c : Nat) : ∀ b, b ∈ ubs c → 0 < b ∧ b ≤ 7 := by
  intro b hb
  have l0 := dg_lt c 0
  have l1 := dg_lt c 1
  have l2 := dg_lt c 2
  have l3 := dg_lt c 3
  have l4 := dg_lt c 4
  simp only [ubs, List.mem_cons, List.not_mem_nil, or_false] at hb
  rcases hb with h | h | h | h | h <;> omega
theorem u_a_VV (c x : Nat) : u_a c x 5 = VV (ubs c) x := by
  simp only [u_a, u_r, ubs, VV, Nat.sub_zero]
  simp only [Nat.reduceSub, Nat.reducePow]
  omega
theorem prk_PB (c : Nat) : prk c 5 = PB (ubs c) := by
  simp only [prk, ubs, PB, Nat.one_mul, Nat.mul_one]
  ac_rfl
theorem prk_le (c : Nat) : prk c 5 ≤ 16807 := by
  have l0 := dg_lt c 0
  have l1 := dg_lt c 1
  have l2 := dg_lt c 2
  have l3 := dg_lt c 3
  have l4 := dg_lt c 4
  simp only [prk, Nat.one_mul]
  have : (dg c 0 + 1) * (dg c 1 + 1) * (dg c 2 + 1) * (dg c 3 + 1) * (dg c 4 + 1) ≤ 7 * 7 * 7 * 7 * 7 := Nat.mul_le_mul (Nat.mul_le_mul (Nat.mul_le_mul (Nat.mul_le_mul (by omega) (by omega)) (by omega)) (by omega)) (by omega)
  omega
/-- the x-th part of c -/
def und (c x : Nat) : Nat := u_a c x 5
theorem und_mono {c x y : Nat} (h : x < y) (hy : y < prk c 5) : und c x < und c y := by
  unfold und
  rw [u_a_VV, u_a_VV]
  rw [prk_PB] at hy
  exact VV_mono _ (ubs_ok c) x y h hy
theorem und_surj {c v : Nat} (hv : v < 16807) (h : pt v c = true) : ∃ x, x < prk c 5 ∧ und c x = v := by
  rw [pt_iff] at h
  obtain ⟨x, hx, he⟩ := VV_surj (ubs c) [dg v 4, dg v 3, dg v 2, dg v 1, dg v 0] rfl (fun i hi => by
    have hi : i < 5 := hi
    have hi' : i = 0 ∨ i = 1 ∨ i = 2 ∨ i = 3 ∨ i = 4 := by omega
    rcases hi' with rfl | rfl | rfl | rfl | rfl
    · show dg v 4 < dg c 4 + 1
      omega
    · show dg v 3 < dg c 3 + 1
      omega
    · show dg v 2 < dg c 2 + 1
      omega
    · show dg v 1 < dg c 1 + 1
      omega
    · show dg v 0 < dg c 0 + 1
      omega)
  refine ⟨x, by rw [prk_PB]; exact hx, ?_⟩
  unfold und
  rw [u_a_VV, he]
  have e := dec5 hv
  show dg v 4 + 7 * (dg v 3 + 7 * (dg v 2 + 7 * (dg v 1 + 7 * (dg v 0 + 7 * 0)))) = v
  omega
theorem und_pt {c : Nat} (x : Nat) : und c x < 16807 ∧ pt (und c x) c = true := by
  have l0 := dg_lt c 0
  have l1 := dg_lt c 1
  have l2 := dg_lt c 2
  have l3 := dg_lt c 3
  have l4 := dg_lt c 4
  have e : und c x = 2401 * (x / (dg c 4 + 1) / (dg c 3 + 1) / (dg c 2 + 1) / (dg c 1 + 1) % (dg c 0 + 1)) + 343 * (x / (dg c 4 + 1) / (dg c 3 + 1) / (dg c 2 + 1) % (dg c 1 + 1)) + 49 * (x / (dg c 4 + 1) / (dg c 3 + 1) % (dg c 2 + 1)) + 7 * (x / (dg c 4 + 1) % (dg c 3 + 1)) + x % (dg c 4 + 1) := by
    unfold und
    rw [u_a_VV]
    simp only [ubs, VV]
    omega
  have m0 := Nat.mod_lt (x / (dg c 4 + 1) / (dg c 3 + 1) / (dg c 2 + 1) / (dg c 1 + 1)) (show 0 < dg c 0 + 1 by omega)
  have m1 := Nat.mod_lt (x / (dg c 4 + 1) / (dg c 3 + 1) / (dg c 2 + 1)) (show 0 < dg c 1 + 1 by omega)
  have m2 := Nat.mod_lt (x / (dg c 4 + 1) / (dg c 3 + 1)) (show 0 < dg c 2 + 1 by omega)
  have m3 := Nat.mod_lt (x / (dg c 4 + 1)) (show 0 < dg c 3 + 1 by omega)
  have m4 := Nat.mod_lt x (show 0 < dg c 4 + 1 by omega)
  generalize x / (dg c 4 + 1) / (dg c 3 + 1) / (dg c 2 + 1) / (dg c 1 + 1) % (dg c 0 + 1) = y0 at *
  generalize x / (dg c 4 + 1) / (dg c 3 + 1) / (dg c 2 + 1) % (dg c 1 + 1) = y1 at *
  generalize x / (dg c 4 + 1) / (dg c 3 + 1) % (dg c 2 + 1) = y2 at *
  generalize x / (dg c 4 + 1) % (dg c 3 + 1) = y3 at *
  generalize x % (dg c 4 + 1) = y4 at *
  obtain ⟨q, q0, q1, q2, q3, q4⟩ := enc5 (a := y0) (b := y1) (c := y2) (d := y3) (e := y4) (by omega) (by omega) (by omega) (by omega) (by omega)
  rw [e]
  refine ⟨q, (pt_iff _ _).mpr ?_⟩
  rw [q0, q1, q2, q3, q4]
  omega
theorem und_inj {c x y : Nat} (hx : x < prk c 5) (hy : y < prk c 5) (h : und c x = und c y) : x = y := by
  rcases Nat.lt_trichotomy x y with q | q | q
  · have := und_mono q hy
    omega
  · exact q
  · have := und_mono q hx
    omega
theorem und_lt {c x y : Nat} (hx : x < prk c 5) (hy : y < prk c 5) (h : und c x < und c y) : x < y := by
  rcases Nat.lt_trichotomy x y with q | q | q
  · exact q
  · rw [q] at h
    omega
  · have := und_mono q hx
    omega
/-- the tables behind the first i parts -/
def tbs (tm tf : Nat → Int32) (c : Nat) (J K : List Nat) (i : Nat) : Prop := ∀ x, x < prk c 5 → tm (und c x) = nI (if x < i then wy J (und c x) else wy K (und c x)) ∧ tf (und c x) = nI (if x < i then fe J (und c x) else fe K (und c x))
def tbl (tm tf : Nat → Int32) (c : Nat) (J : List Nat) : Prop := ∀ v, v < 16807 → pt v c = true → tm v = nI (wy J v) ∧ tf v = nI (fe J v)
theorem tbs_start {tm tf : Nat → Int32} {c : Nat} {J K : List Nat} (h : tbl tm tf c K) : tbs tm tf c J K 0 := by
  intro x hx
  rw [if_neg (Nat.not_lt_zero _), if_neg (Nat.not_lt_zero _)]
  exact h _ (und_pt x).1 (und_pt x).2
theorem tbs_end {tm tf : Nat → Int32} {c i : Nat} {J K : List Nat} (h : tbs tm tf c J K i) (hi : prk c 5 ≤ i) : tbl tm tf c J := by
  intro v hv hp
  obtain ⟨x, hx, rfl⟩ := und_surj hv hp
  have q := h x hx
  rw [if_pos (by omega), if_pos (by omega)] at q
  exact q
/-- one part that the least balance is no part of -/
theorem tbs_no {tm tf : Nat → Int32} {c i : Nat} {J K : List Nat} (h : tbs tm tf c J K i) (e1 : wy J (und c i) = wy K (und c i)) (e2 : fe J (und c i) = fe K (und c i)) : tbs tm tf c J K (i + 1) := by
  intro x hx
  have q := h x hx
  by_cases r : x = i
  · subst r
    rw [if_neg (Nat.lt_irrefl _), if_neg (Nat.lt_irrefl _)] at q
    rw [if_pos (Nat.lt_succ_self _), if_pos (Nat.lt_succ_self _), e1, e2]
    exact q
  · by_cases r2 : x < i
    · rw [if_pos r2, if_pos r2] at q
      rw [if_pos (by omega), if_pos (by omega)]
      exact q
    · rw [if_neg r2, if_neg r2] at q
      rw [if_neg (by omega), if_neg (by omega)]
      exact q
theorem tbs_put {tm tf : Nat → Int32} {c i : Nat} {J K : List Nat} (h : tbs tm tf c J K i) (hi : i < prk c 5) {a b : Int32} (e1 : a = nI (wy J (und c i))) (e2 : b = nI (fe J (und c i))) : tbs (upd tm (und c i) a) (upd tf (und c i) b) c J K (i + 1) := by
  intro x hx
  have q := h x hx
  by_cases r : x = i
  · subst r
    rw [if_pos (Nat.lt_succ_self _), if_pos (Nat.lt_succ_self _), pk_us, pk_us]
    exact ⟨e1, e2⟩
  · have r3 : und c x ≠ und c i := fun z => r (und_inj hx hi z)
    rw [pk_un r3, pk_un r3]
    by_cases r2 : x < i
    · rw [if_pos r2, if_pos r2] at q
      rw [if_pos (by omega), if_pos (by omega)]
      exact q
    · rw [if_neg r2, if_neg r2] at q
      rw [if_neg (by omega), if_neg (by omega)]
      exact q
theorem tbs_putM {tm tf : Nat → Int32} {c i : Nat} {J K : List Nat} (h : tbs tm tf c J K i) (hi : i < prk c 5) {a : Int32} (e1 : a = nI (wy J (und c i))) (e2 : fe K (und c i) = fe J (und c i)) : tbs (upd tm (und c i) a) tf c J K (i + 1) := by
  intro x hx
  have q := h x hx
  by_cases r : x = i
  · subst r
    rw [if_neg (Nat.lt_irrefl _), if_neg (Nat.lt_irrefl _)] at q
    rw [if_pos (Nat.lt_succ_self _), if_pos (Nat.lt_succ_self _), pk_us, ← e2]
    exact ⟨e1, q.2⟩
  · have r3 : und c x ≠ und c i := fun z => r (und_inj hx hi z)
    rw [pk_un r3]
    by_cases r2 : x < i
    · rw [if_pos r2, if_pos r2] at q
      rw [if_pos (by omega), if_pos (by omega)]
      exact q
    · rw [if_neg r2, if_neg r2] at q
      rw [if_neg (by omega), if_neg (by omega)]
      exact q
/-- what was put before: a smaller part -/
theorem tbs_get {tm tf : Nat → Int32} {c i v : Nat} {J K : List Nat} (h : tbs tm tf c J K i) (hi : i < prk c 5) (hv : v < 16807) (hp : pt v c = true) (hl : v < und c i) : tm v = nI (wy J v) ∧ tf v = nI (fe J v) := by
  obtain ⟨x, hx, rfl⟩ := und_surj hv hp
  have q := h x hx
  have r := und_lt hx hi hl
  rw [if_pos r, if_pos r] at q
  exact q
theorem tbs_at {tm tf : Nat → Int32} {c i : Nat} {J K : List Nat} (h : tbs tm tf c J K i) (hi : i < prk c 5) : tm (und c i) = nI (wy K (und c i)) ∧ tf (und c i) = nI (fe K (und c i)) := by
  have q := h i hi
  rw [if_neg (Nat.lt_irrefl _), if_neg (Nat.lt_irrefl _)] at q
  exact q
end
section
/-! the reference's work, spread, sums -/
theorem wkl_len (w : Nat → Int) {n : Nat} (h : n ≤ 16806) : (wkl w n).length ≤ 343 := few_lst (w := w) (lt_nodup (wkl_inv w n h).1) (fun c hc => (((wkl_inv w n h).2 c).mp hc).1)
theorem wkl_lt (w : Nat → Int) {n : Nat} (h : n ≤ 16806) : ∀ a, a ∈ wkl w n → a < 16807 := fun a ha => (((wkl_inv w n h).2 a).mp ha).1.2.1
theorem wkl_same {w : Nat → Int} {n : Nat} (h : ¬ (sm w (n + 1) = 0 ∧ (wkl w n).length < 2000 ∧ hp (wkl w n) (n + 1) = false)) : wkl w (n + 1) = wkl w n := if_neg h
theorem wkl_more {w : Nat → Int} {n : Nat} (h : sm w (n + 1) = 0 ∧ (wkl w n).length < 2000 ∧ hp (wkl w n) (n + 1) = false) : wkl w (n + 1) = wkl w n ++ [n + 1] := if_pos h
theorem wkb_1 {w : Nat → Int} {n : Nat} (h : sm w (n + 1) = 0) : wkb w n + 1 = wkb w (n + 1) := by
  show _ = wkb w n + (if sm w (n + 1) = 0 then 1 else 0)
  rw [if_pos h]
theorem wkb_0 {w : Nat → Int} {n : Nat} (h : ¬ sm w (n + 1) = 0) : wkb w n = wkb w (n + 1) := by
  show _ = wkb w n + (if sm w (n + 1) = 0 then 1 else 0)
  rw [if_neg h]
  rfl
theorem ini_step {tm tf : Nat → Int32} {c i : Nat} (h : ∀ x, x < i → x < prk c 5 → tm (und c x) = nI (wy [] (und c x)) ∧ tf (und c x) = nI (fe [] (und c x))) (hi : i < prk c 5) : ∀ x, x < i + 1 → x < prk c 5 → upd tm (und c i) (nI (wy [] (und c i))) (und c x) = nI (wy [] (und c x)) ∧ upd tf (und c i) (nI (fe [] (und c i))) (und c x) = nI (fe [] (und c x)) := by
  intro x hx hx2
  by_cases r : x = i
  · subst r
    rw [pk_us, pk_us]
    exact ⟨rfl, rfl⟩
  · have r3 : und c x ≠ und c i := fun z => r (und_inj hx2 hi z)
    rw [pk_un r3, pk_un r3]
    exact h x (by omega) hx2
abbrev rX1_work : Room := { frames := 3, cells := 0, slots := 0, locals := 67 }
set_option maxHeartbeats 4000000 in
set_option maxRecDepth 100000 in
theorem metX1_work {l : Launch} {D : va_G} {d : ClassId} {g : Nat → Nat} {fw fc fm ff : Nat → Int32} {rdy cnt bal : Int32} {hz : Nat} {w : Nat → Int} (hw : hww fw w) (ho : okw w) (hi : rdy = 0 ∨ (rdy = 1 ∧ hli fc (LL w) ∧ cnt = nI (LL w).length ∧ bal = nI (smc w 16807))) : mVO l yX1_work cX1_work 3 rX1_work [.ref (g 0)] D d (wM g d fw fc fm ff rdy cnt bal) hz (S := Nat → Int32) (fun u => hli u (LL w)) (fun u => wM g d fw u fm ff 1 (nI (LL w).length) (nI (smc w 16807))) := by
  refine mVO.ofW (by decide) (Nat.le_of_ble_eq_true rfl) ?_
  intro p e s m args below meth mc Q A ls S hP hK hA hS hl hD ret
  have S : CallFix p m mc cX1_work 3 s args lw_all RX1 := S
  have hx := S.1
  have hb := S.2.1
  have hown := S.2.2.2.1
  have hts := S.2.2.2.2
  have hl : lv_has ls 3 [(0, .ref (g 0))] := hl
  rcases hi with rfl | ⟨rfl, hL, rfl, rfl⟩
  · refine lv_aload_n hx hb dX1_work_0 rfl (lv_at hl 0 rfl) ?_
    refine va_get (D := D) (ci := 1) (v := .int 0) (C := RX1) (T := TX1) (N := 7) hx hb hts in_X1 hown hK hP 0 rfl rfl 1 (by decide) (hts _ q188) (fun _ h9 => h9) rfl dX1_work_1 ?_
    refine z0_ne (X := 0) (tgt := 99) hx hb dX1_work_4 (by decide) (by decide) (fun hc => ?_) (fun hc => ?_)
    · omega
    · refine lv_aload_n hx hb dX1_work_7 rfl (lv_at hl 0 rfl) ?_
      refine lv_iconst (v := 0) hx hb dX1_work_8 (by decide) ?_
      refine va_put (D := D) (ci := 1) (v := .int 0) (ty := .int) (C := RX1) (T := TX1) (N := 7) hx hb hts in_X1 tyX1 tyX1_ok nmX1 hown hK hP hD hS 0 rfl rfl 2 (by decide) (hts _ q189) (fun _ h9 => h9) rfl (by decide +kernel) rfl rfl (Nat.le_of_ble_eq_true rfl) dX1_work_9 (fun H locs hP hD hS => ?_)
      have hP : va_P D vwCl (wM g d fw fc fm ff 0 0 bal) H := hP
      have hD : va_D A (wM g d fw fc fm ff 0 0 bal) := hD
      refine lv_aload_n hx hb dX1_work_12 rfl (lv_at hl 0 rfl) ?_
      refine lv_iconst (v := 1) hx hb dX1_work_13 (by decide) ?_
      refine va_put (D := D) (ci := 1) (v := .int 1) (ty := .int) (C := RX1) (T := TX1) (N := 7) hx hb hts in_X1 tyX1 tyX1_ok nmX1 hown hK hP hD hS 0 rfl rfl 3 (by decide) (hts _ q190) (fun _ h9 => h9) rfl (by decide +kernel) rfl rfl (Nat.le_of_ble_eq_true rfl) dX1_work_14 (fun H locs hP hD hS => ?_)
      have hP : va_P D vwCl (wM g d fw fc fm ff 0 0 1) H := hP
      have hD : va_D A (wM g d fw fc fm ff 0 0 1) := hD
      have lp : ∀ (k : Nat) (n : Nat) (tc : Nat → Int32) (H : Heap) (locs : List Loc) (ls : Array Slot), 16806 - n < k → n ≤ 16806 → hli tc (wkl w n) → va_P D vwCl (wM g d fw tc fm ff 0 (nI (wkl w n).length) (nI (wkb w n))) H → va_D A (wM g d fw tc fm ff 0 (nI (wkl w n).length) (nI (wkb w n))) → va_S A s.heap H locs → lv_has ls 3 [(0, .ref (g 0)), (1, .int (nI (n + 1)))] → W p l e rX1_work s m args below meth mc H locs 0 0 Q (F0 m 19 ls []) := by
        intro k
        induction k with
        | zero =>
          intro n tc H locs ls hk
          exact absurd hk (Nat.not_lt_zero _)
        | succ k ih =>
          intro n tc H locs ls hk hn hT hP hD hS hl
          have hwl := wkl_len w hn
          have hwm := wkl_lt w hn
          refine lv_iload_n hx hb dX1_work_19 rfl (lv_at hl 1 rfl) ?_
          refine lv_sipush (v := 16807) hx hb dX1_work_20 (by decide) ?_
          refine z_ge (X := ((n + 1 : Nat) : Int)) (Y := 16807) (tgt := 94) hx hb dX1_work_23 (by decide) (nI_toInt (by omega)) (by decide) (fun hc9 => ?_) (fun hc9 => ?_)
          · obtain rfl : n = 16806 := (by omega)
            refine lv_aload_n hx hb dX1_work_94 rfl (lv_at hl 0 rfl) ?_
            refine lv_iconst (v := 1) hx hb dX1_work_95 (by decide) ?_
            refine va_put (D := D) (ci := 1) (v := .int 1) (ty := .boolean) (C := RX1) (T := TX1) (N := 7) hx hb hts in_X1 tyX1 tyX1_ok nmX1 hown hK hP hD hS 0 rfl rfl 1 (by decide) (hts _ q188) (fun _ h9 => h9) rfl (by decide +kernel) rfl rfl (Nat.le_of_ble_eq_true rfl) dX1_work_96 (fun H locs hP hD hS => ?_)
            have hP : va_P D vwCl (wM g d fw tc fm ff 1 (nI (wkl w 16806).length) (nI (wkb w 16806))) H := hP
            have hD : va_D A (wM g d fw tc fm ff 1 (nI (wkl w 16806).length) (nI (wkb w 16806))) := hD
            rw [wkl_LL, ← smc_wkb] at hP hD
            rw [wkl_LL] at hT
            exact ret (tc) _ _ _ _ dX1_work_99 (hT) hP hD hS
          · have jn : ∀ (tc2 : Nat → Int32) (H : Heap) (locs : List Loc) (ls : Array Slot), (hli tc2 (wkl w (n + 1))) → va_P D vwCl (wM g d fw tc2 fm ff 0 (nI (wkl w (n + 1)).length) (nI (wkb w (n + 1)))) H → va_D A (wM g d fw tc2 fm ff 0 (nI (wkl w (n + 1)).length) (nI (wkb w (n + 1)))) → va_S A s.heap H locs → lv_has ls 3 [(0, .ref (g 0)), (1, .int (nI (n + 1)))] → W p l e rX1_work s m args below meth mc H locs 0 0 Q (F0 m 88 ls []) := by
              intro tc2 H locs ls hT2 hP hD hS hl
              refine lv_iinc (v := nI (n + 1 + 1)) (lv' := [(1, .int (nI (n + 1 + 1))), (0, .ref (g 0))]) hx hb dX1_work_88 hl (k := 1) rfl (nI_1 _) (by decide) rfl (fun ls hl => ?_)
              refine lv_goto (tgt := 19) hx hb dX1_work_91 (by decide) ?_
              exact ih (n + 1) tc2 _ _ _ (by omega) (by omega) hT2 hP hD hS (lv_sub hl [1, 0] rfl)
            refine lv_aload_n hx hb dX1_work_26 rfl (lv_at hl 0 rfl) ?_
            refine lv_iload_n hx hb dX1_work_27 rfl (lv_at hl 1 rfl) ?_
            refine cRO (As := [.int (nI (n + 1))]) (rest := []) S (metX1_balanced (c := n + 1) (w := w) hw ho (by omega)) (cwV 1 hts (lw_V q229 q231 qs14 q26 q232) rfl rfl rfl (by decide +kernel) ⟨Nat.le_of_ble_eq_true rfl, Nat.le_of_ble_eq_true rfl⟩) hK hP hS hA rfl rfl rfl hl.1 rfl (Nat.le_of_ble_eq_true rfl) dX1_work_28 ⟨Nat.zero_le _, Nat.zero_le _⟩ (fun r9 H locs hr hP hS => ?_)
            obtain rfl : r9 = bI (decide (sm w (n + 1) = 0)) := hr
            refine lv_istore_n (lv' := [(2, .int (bI (decide (sm w (n + 1) = 0)))), (0, .ref (g 0)), (1, .int (nI (n + 1)))]) hx hb dX1_work_31 rfl hl (by decide) rfl (fun ls hl => ?_)
            refine lv_iload_n hx hb dX1_work_32 rfl (lv_at hl 0 rfl) ?_
            refine b_eq (b := decide (sm w (n + 1) = 0)) (tgt := 46) hx hb dX1_work_33 (by decide) (fun hc => ?_) (fun hc => ?_)
            · have hs := of_decide_eq_false hc
              refine lv_iload_n hx hb dX1_work_46 rfl (lv_at hl 0 rfl) ?_
              refine b_eq (b := decide (sm w (n + 1) = 0)) (tgt := 88) hx hb dX1_work_47 (by decide) (fun hc2 => ?_) (fun hc2 => ?_)
              · rw [wkb_0 hs, ← wkl_same (w := w) (n := n) (fun q => hs q.1)] at hP hD
                rw [← wkl_same (w := w) (n := n) (fun q => hs q.1)] at hT
                exact jn tc _ _ _ hT hP hD hS (lv_sub hl [1, 2] rfl)
              · exact absurd hc2 (by rw [hc]; decide)
            · have hs := of_decide_eq_true hc
              refine lv_aload_n hx hb dX1_work_36 rfl (lv_at hl 1 rfl) ?_
              refine lv_dup hx hb dX1_work_37 rfl ?_
              refine va_get (D := D) (ci := 1) (v := .int (nI (wkb w n))) (C := RX1) (T := TX1) (N := 7) hx hb hts in_X1 hown hK hP 0 rfl rfl 3 (by decide) (hts _ q190) (fun _ h9 => h9) rfl dX1_work_38 ?_
              refine lv_iconst (v := 1) hx hb dX1_work_41 (by decide) ?_
              refine lv_iadd hx hb dX1_work_42 ?_
              refine tpi (y := nI (wkb w n + 1)) (nI_1 _) ?_
              refine va_put (D := D) (ci := 1) (v := .int (nI (wkb w n + 1))) (ty := .int) (C := RX1) (T := TX1) (N := 7) hx hb hts in_X1 tyX1 tyX1_ok nmX1 hown hK hP hD hS 0 rfl rfl 3 (by decide) (hts _ q190) (fun _ h9 => h9) rfl (by decide +kernel) rfl rfl (Nat.le_of_ble_eq_true rfl) dX1_work_43 (fun H locs hP hD hS => ?_)
              have hP : va_P D vwCl (wM g d fw tc fm ff 0 (nI (wkl w n).length) (nI (wkb w n + 1))) H := hP
              have hD : va_D A (wM g d fw tc fm ff 0 (nI (wkl w n).length) (nI (wkb w n + 1))) := hD
              refine lv_iload_n hx hb dX1_work_46 rfl (lv_at hl 0 rfl) ?_
              rw [wkb_1 hs] at hP hD
              refine b_eq (b := decide (sm w (n + 1) = 0)) (tgt := 88) hx hb dX1_work_47 (by decide) (fun hc2 => ?_) (fun hc2 => ?_)
              · exact absurd hc2 (by rw [hc]; decide)
              · refine lv_aload_n hx hb dX1_work_50 rfl (lv_at hl 1 rfl) ?_
                refine va_get (D := D) (ci := 1) (v := .int (nI (wkl w n).length)) (C := RX1) (T := TX1) (N := 7) hx hb hts in_X1 hown hK hP 0 rfl rfl 2 (by decide) (hts _ q189) (fun _ h9 => h9) rfl dX1_work_51 ?_
                refine lv_sipush (v := 2000) hx hb dX1_work_54 (by decide) ?_
                refine z_ge (X := (((wkl w n).length : Nat) : Int)) (Y := 2000) (tgt := 88) hx hb dX1_work_57 (by decide) (nI_toInt (by omega)) (by decide) (fun hc3 => ?_) (fun hc3 => ?_)
                · omega
                · refine lv_aload_n hx hb dX1_work_60 rfl (lv_at hl 1 rfl) ?_
                  refine lv_iload_n hx hb dX1_work_61 rfl (lv_at hl 2 rfl) ?_
                  refine cRO (As := [.int (nI (n + 1))]) (rest := []) S (metX1_alone (c := n + 1) (L := wkl w n) hT rfl (by omega) hwm (by omega)) (cwV 1 hts (lw_V q245 q247 qs17 q26 q248) rfl rfl rfl (by decide +kernel) ⟨Nat.le_of_ble_eq_true rfl, Nat.le_of_ble_eq_true rfl⟩) hK hP hS hA rfl rfl rfl hl.1 rfl (Nat.le_of_ble_eq_true rfl) dX1_work_62 ⟨Nat.zero_le _, Nat.zero_le _⟩ (fun r9 H locs hr hP hS => ?_)
                  obtain rfl : r9 = bI (!hp (wkl w n) (n + 1)) := hr
                  refine b_eq (b := !hp (wkl w n) (n + 1)) (tgt := 88) hx hb dX1_work_65 (by decide) (fun hc4 => ?_) (fun hc4 => ?_)
                  · rw [← wkl_same (w := w) (n := n) (fun q => by rw [q.2.2] at hc4; cases hc4)] at hP hD hT
                    exact jn tc _ _ _ hT hP hD hS (lv_sub hl [1, 2] rfl)
                  · refine lv_aload_n hx hb dX1_work_68 rfl (lv_at hl 1 rfl) ?_
                    refine va_get (D := D) (ci := 1) (v := .ref (g 2)) (C := RX1) (T := TX1) (N := 7) hx hb hts in_X1 hown hK hP 0 rfl rfl 4 (by decide) (hts _ q191) (fun _ h9 => h9) rfl dX1_work_69 ?_
                    refine lv_aload_n hx hb dX1_work_72 rfl (lv_at hl 1 rfl) ?_
                    refine va_get (D := D) (ci := 1) (v := .int (nI (wkl w n).length)) (C := RX1) (T := TX1) (N := 7) hx hb hts in_X1 hown hK hP 0 rfl rfl 2 (by decide) (hts _ q189) (fun _ h9 => h9) rfl dX1_work_73 ?_
                    refine lv_iload_n hx hb dX1_work_76 rfl (lv_at hl 2 rfl) ?_
                    refine xast (x := nI (n + 1)) hx hb hK hP hD hS 2 0 rfl rfl ((wkl w n).length) (rfl) (by omega) (by decide) dX1_work_77 (fun H locs hP hD hS => ?_)
                    have hP : va_P D vwCl (wM g d fw (upd tc ((wkl w n).length) (nI (n + 1))) fm ff 0 (nI (wkl w n).length) (nI (wkb w (n + 1)))) H := hP
                    have hD : va_D A (wM g d fw (upd tc ((wkl w n).length) (nI (n + 1))) fm ff 0 (nI (wkl w n).length) (nI (wkb w (n + 1)))) := hD
                    refine lv_aload_n hx hb dX1_work_78 rfl (lv_at hl 1 rfl) ?_
                    refine lv_dup hx hb dX1_work_79 rfl ?_
                    refine va_get (D := D) (ci := 1) (v := .int (nI (wkl w n).length)) (C := RX1) (T := TX1) (N := 7) hx hb hts in_X1 hown hK hP 0 rfl rfl 2 (by decide) (hts _ q189) (fun _ h9 => h9) rfl dX1_work_80 ?_
                    refine lv_iconst (v := 1) hx hb dX1_work_83 (by decide) ?_
                    refine lv_iadd hx hb dX1_work_84 ?_
                    refine tpi (y := nI ((wkl w n).length + 1)) (nI_1 _) ?_
                    refine va_put (D := D) (ci := 1) (v := .int (nI ((wkl w n).length + 1))) (ty := .int) (C := RX1) (T := TX1) (N := 7) hx hb hts in_X1 tyX1 tyX1_ok nmX1 hown hK hP hD hS 0 rfl rfl 2 (by decide) (hts _ q189) (fun _ h9 => h9) rfl (by decide +kernel) rfl rfl (Nat.le_of_ble_eq_true rfl) dX1_work_85 (fun H locs hP hD hS => ?_)
                    have hP : va_P D vwCl (wM g d fw (upd tc ((wkl w n).length) (nI (n + 1))) fm ff 0 (nI ((wkl w n).length + 1)) (nI (wkb w (n + 1)))) H := hP
                    have hD : va_D A (wM g d fw (upd tc ((wkl w n).length) (nI (n + 1))) fm ff 0 (nI ((wkl w n).length + 1)) (nI (wkb w (n + 1)))) := hD
                    have e1 : wkl w (n + 1) = wkl w n ++ [n + 1] := wkl_more ⟨hs, by omega, by cases hh : hp (wkl w n) (n + 1) with | false => rfl | true => rw [hh] at hc4; cases hc4⟩
                    have e2 : (wkl w n).length + 1 = (wkl w (n + 1)).length := by rw [e1]; simp
                    rw [e2] at hP hD
                    exact jn (upd tc ((wkl w n).length) (nI (n + 1))) _ _ _ (by rw [e1]; exact hli_push _ hT) hP hD hS (lv_sub hl [1, 2] rfl)
      refine lv_iconst (v := 1) hx hb dX1_work_17 (by decide) ?_
      refine lv_istore_n (lv' := [(1, .int 1), (0, .ref (g 0))]) hx hb dX1_work_18 rfl hl (by decide) rfl (fun ls hl => ?_)
      exact lp _ 0 fc _ _ _ (Nat.lt_succ_self _) (by omega) (fun k hk => absurd hk (Nat.not_lt_zero _)) hP hD hS (lv_sub hl [1, 0] rfl)
  · refine lv_aload_n hx hb dX1_work_0 rfl (lv_at hl 0 rfl) ?_
    refine va_get (D := D) (ci := 1) (v := .int 1) (C := RX1) (T := TX1) (N := 7) hx hb hts in_X1 hown hK hP 0 rfl rfl 1 (by decide) (hts _ q188) (fun _ h9 => h9) rfl dX1_work_1 ?_
    refine z0_ne (X := 1) (tgt := 99) hx hb dX1_work_4 (by decide) (by decide) (fun hc => ?_) (fun hc => ?_)
    · exact ret (fc) _ _ _ _ dX1_work_99 (hL) hP hD hS
    · omega
abbrev rX1_spread : Room := { frames := 2, cells := 0, slots := 0, locals := 49 }
set_option maxHeartbeats 4000000 in
set_option maxRecDepth 100000 in
theorem metX1_spread {l : Launch} {D : va_G} {d : ClassId} {g : Nat → Nat} {fw fc fm ff : Nat → Int32} {rdy cnt bal : Int32} {hz : Nat} {a c : Nat} {K : List Nat} (ha0 : 0 < a) (ha1 : a < 16807) (hc0 : c < 16807) (hK0 : okl K) (hT0 : tbl fm ff c K) : mVO l yX1_spread cX1_spread 7 rX1_spread [.ref (g 0), .int (nI a), .int (nI c), .int (nI (prk c 5))] D d (wM g d fw fc fm ff rdy cnt bal) hz (S := (Nat → Int32) × (Nat → Int32)) (fun u => tbl u.1 u.2 c (a :: K)) (fun u => wM g d fw fc u.1 u.2 rdy cnt bal) := by
  refine mVO.ofW (by decide) (Nat.le_of_ble_eq_true rfl) ?_
  intro p e s m args below meth mc Q A ls S hP hK hA hS hl hD ret
  have S : CallFix p m mc cX1_spread 7 s args lw_all RX1 := S
  have hx := S.1
  have hb := S.2.1
  have hown := S.2.2.2.1
  have hts := S.2.2.2.2
  have hl : lv_has ls 7 [(0, .ref (g 0)), (1, .int (nI a)), (2, .int (nI c)), (3, .int (nI (prk c 5)))] := hl
  have hE := prk_le c
  have hK1 : okl (a :: K) := fun q hq => by rcases List.mem_cons.mp hq with z | z; rw [z]; exact ⟨ha0, ha1⟩; exact hK0 q z
  have lp : ∀ (k : Nat) (i : Nat) (tm tf : Nat → Int32) (H : Heap) (locs : List Loc) (ls : Array Slot), prk c 5 - i < k → i ≤ prk c 5 → tbs tm tf c (a :: K) K i → va_P D vwCl (wM g d fw fc tm tf rdy cnt bal) H → va_D A (wM g d fw fc tm tf rdy cnt bal) → va_S A s.heap H locs → lv_has ls 7 [(0, .ref (g 0)), (1, .int (nI a)), (2, .int (nI c)), (3, .int (nI (prk c 5))), (4, .int (nI i))] → W p l e rX1_spread s m args below meth mc H locs 0 0 Q (F0 m 3 ls []) := by
    intro k
    induction k with
    | zero =>
      intro i tm tf H locs ls hk
      exact absurd hk (Nat.not_lt_zero _)
    | succ k ih =>
      intro i tm tf H locs ls hk hi hT hP hD hS hl
      refine lv_iload hx hb dX1_spread_3 (lv_at hl 4 rfl) ?_
      refine lv_iload_n hx hb dX1_spread_5 rfl (lv_at hl 3 rfl) ?_
      refine z_ge (X := ((i : Nat) : Int)) (Y := ((prk c 5 : Nat) : Int)) (tgt := 93) hx hb dX1_spread_6 (by decide) (nI_toInt (by omega)) (nI_toInt (by omega)) (fun hc5 => ?_) (fun hc5 => ?_)
      · exact ret ((tm, tf)) _ _ _ _ dX1_spread_93 (tbs_end hT (by omega)) hP hD hS
      · have hi2 : i < prk c 5 := by omega
        obtain ⟨hv1, hv2⟩ := und_pt (c := c) i
        obtain ⟨hat1, hat2⟩ := tbs_at hT hi2
        have hfk := fe_le hK0 hv1
        have jn : ∀ (tm2 tf2 : Nat → Int32) (H : Heap) (locs : List Loc) (ls : Array Slot), (tbs tm2 tf2 c (a :: K) K (i + 1)) → va_P D vwCl (wM g d fw fc tm2 tf2 rdy cnt bal) H → va_D A (wM g d fw fc tm2 tf2 rdy cnt bal) → va_S A s.heap H locs → lv_has ls 7 [(0, .ref (g 0)), (1, .int (nI a)), (2, .int (nI c)), (3, .int (nI (prk c 5))), (4, .int (nI i))] → W p l e rX1_spread s m args below meth mc H locs 0 0 Q (F0 m 87 ls []) := by
          intro tm2 tf2 H locs ls hT2 hP hD hS hl
          refine lv_iinc (v := nI (i + 1)) (lv' := [(4, .int (nI (i + 1))), (0, .ref (g 0)), (1, .int (nI a)), (2, .int (nI c)), (3, .int (nI (prk c 5)))]) hx hb dX1_spread_87 hl (k := 4) rfl (nI_1 _) (by decide) rfl (fun ls hl => ?_)
          refine lv_goto (tgt := 3) hx hb dX1_spread_90 (by decide) ?_
          exact ih (i + 1) tm2 tf2 _ _ _ (by omega) (by omega) hT2 hP hD hS (lv_sub hl [1, 2, 3, 4, 0] rfl)
        refine lv_aload_n hx hb dX1_spread_9 rfl (lv_at hl 0 rfl) ?_
        refine lv_iload_n hx hb dX1_spread_10 rfl (lv_at hl 2 rfl) ?_
        refine lv_iload hx hb dX1_spread_11 (lv_at hl 4 rfl) ?_
        refine cRO (As := [.int (nI c), .int (nI i)]) (rest := []) S (metX1_under (c := c) (x := i) hc0 (by omega)) (cwV 2 hts (lw_V q289 q291 qs22 q26 q292) rfl rfl rfl (by decide +kernel) ⟨Nat.le_of_ble_eq_true rfl, Nat.le_of_ble_eq_true rfl⟩) hK hP hS hA rfl rfl rfl hl.1 rfl (Nat.le_of_ble_eq_true rfl) dX1_spread_13 ⟨Nat.zero_le _, Nat.zero_le _⟩ (fun r9 H locs hr hP hS => ?_)
        obtain rfl : r9 = nI (und c i) := hr
        refine lv_istore (lv' := [(5, .int (nI (und c i))), (0, .ref (g 0)), (1, .int (nI a)), (2, .int (nI c)), (3, .int (nI (prk c 5))), (4, .int (nI i))]) hx hb dX1_spread_16 hl (by decide) rfl (fun ls hl => ?_)
        refine lv_iload hx hb dX1_spread_18 (lv_at hl 0 rfl) ?_
        refine lv_iload_n hx hb dX1_spread_20 rfl (lv_at hl 2 rfl) ?_
        refine z_lt (X := ((und c i : Nat) : Int)) (Y := ((a : Nat) : Int)) (tgt := 87) hx hb dX1_spread_21 (by decide) (nI_toInt (by omega)) (nI_toInt (by omega)) (fun hc6 => ?_) (fun hc6 => ?_)
        · exact jn tm tf _ _ _ (tbs_no hT (wy_neg ha0 ha1 hv1 (fun q => by have := pt_le ha1 hv1 q; omega)) (fe_neg ha0 ha1 hv1 (fun q => by have := pt_le ha1 hv1 q; omega))) hP hD hS (lv_sub hl [1, 2, 3, 4, 5] rfl)
        · refine lv_aload_n hx hb dX1_spread_24 rfl (lv_at hl 1 rfl) ?_
          refine lv_iload_n hx hb dX1_spread_25 rfl (lv_at hl 2 rfl) ?_
          refine lv_iload hx hb dX1_spread_26 (lv_at hl 0 rfl) ?_
          refine cRO (As := [.int (nI a), .int (nI (und c i))]) (rest := []) S (metX1_part (a := a) (b := und c i) ha1 hv1) (cwV 2 hts (lw_V q249 q251 qs18 q26 q252) rfl rfl rfl (by decide +kernel) ⟨Nat.le_of_ble_eq_true rfl, Nat.le_of_ble_eq_true rfl⟩) hK hP hS hA rfl rfl rfl hl.1 rfl (Nat.le_of_ble_eq_true rfl) dX1_spread_28 ⟨Nat.zero_le _, Nat.zero_le _⟩ (fun r9 H locs hr hP hS => ?_)
          obtain rfl : r9 = bI (pt a (und c i)) := hr
          refine b_eq (b := pt a (und c i)) (tgt := 87) hx hb dX1_spread_31 (by decide) (fun hpt => ?_) (fun hpt => ?_)
          · exact jn tm tf _ _ _ (tbs_no hT (wy_neg ha0 ha1 hv1 (by rw [hpt]; decide)) (fe_neg ha0 ha1 hv1 (by rw [hpt]; decide))) hP hD hS (lv_sub hl [1, 2, 3, 4, 5] rfl)
          · obtain ⟨hs1, -, -, -, -, -⟩ := pt_sub ha1 hv1 hpt
            have hle := pt_le ha1 hv1 hpt
            obtain ⟨hg1, hg2⟩ := tbs_get hT hi2 hs1 (pt_trans (pt_sub_le ha1 hv1 hpt) hv2) (by omega)
            have hfj := fe_le hK1 hs1
            have e1 : wy (a :: K) (und c i) = wy K (und c i) + wy (a :: K) (und c i - a) := wy_pos ha0 ha1 hv1 hpt
            have e2 : fe (a :: K) (und c i) = min (fe K (und c i)) (fe (a :: K) (und c i - a) + 1) := fe_pos ha0 ha1 hv1 hpt
            refine lv_aload_n hx hb dX1_spread_34 rfl (lv_at hl 1 rfl) ?_
            refine va_get (D := D) (ci := 1) (v := .ref (g 3)) (C := RX1) (T := TX1) (N := 7) hx hb hts in_X1 hown hK hP 0 rfl rfl 5 (by decide) (hts _ q192) (fun _ h9 => h9) rfl dX1_spread_35 ?_
            refine lv_iload hx hb dX1_spread_38 (lv_at hl 0 rfl) ?_
            refine lv_dup2_11 hx hb dX1_spread_40 rfl rfl ?_
            refine xald hx hb hK hP 3 0 rfl rfl (und c i) (rfl) (by omega) (by decide) dX1_spread_41 ?_
            refine tpi (y := nI (wy K (und c i))) (hat1) ?_
            refine lv_aload_n hx hb dX1_spread_42 rfl (lv_at hl 1 rfl) ?_
            refine va_get (D := D) (ci := 1) (v := .ref (g 3)) (C := RX1) (T := TX1) (N := 7) hx hb hts in_X1 hown hK hP 0 rfl rfl 5 (by decide) (hts _ q192) (fun _ h9 => h9) rfl dX1_spread_43 ?_
            refine lv_iload hx hb dX1_spread_46 (lv_at hl 0 rfl) ?_
            refine lv_iload_n hx hb dX1_spread_48 rfl (lv_at hl 2 rfl) ?_
            refine lv_isub hx hb dX1_spread_49 ?_
            refine tpi (y := nI (und c i - a)) (pk_sub hle) ?_
            refine xald hx hb hK hP 3 0 rfl rfl (und c i - a) (rfl) (by omega) (by decide) dX1_spread_50 ?_
            refine tpi (y := nI (wy (a :: K) (und c i - a))) (hg1) ?_
            refine lv_iadd hx hb dX1_spread_51 ?_
            refine tpi (y := nI (wy (a :: K) (und c i))) (by rw [nI_add, ← e1]) ?_
            refine xast (x := nI (wy (a :: K) (und c i))) hx hb hK hP hD hS 3 0 rfl rfl (und c i) (rfl) (by omega) (by decide) dX1_spread_52 (fun H locs hP hD hS => ?_)
            have hP : va_P D vwCl (wM g d fw fc (upd tm (und c i) (nI (wy (a :: K) (und c i)))) tf rdy cnt bal) H := hP
            have hD : va_D A (wM g d fw fc (upd tm (und c i) (nI (wy (a :: K) (und c i)))) tf rdy cnt bal) := hD
            refine lv_aload_n hx hb dX1_spread_53 rfl (lv_at hl 1 rfl) ?_
            refine va_get (D := D) (ci := 1) (v := .ref (g 4)) (C := RX1) (T := TX1) (N := 7) hx hb hts in_X1 hown hK hP 0 rfl rfl 6 (by decide) (hts _ q193) (fun _ h9 => h9) rfl dX1_spread_54 ?_
            refine lv_iload hx hb dX1_spread_57 (lv_at hl 0 rfl) ?_
            refine lv_iload_n hx hb dX1_spread_59 rfl (lv_at hl 2 rfl) ?_
            refine lv_isub hx hb dX1_spread_60 ?_
            refine tpi (y := nI (und c i - a)) (pk_sub hle) ?_
            refine xald hx hb hK hP 4 0 rfl rfl (und c i - a) (rfl) (by omega) (by decide) dX1_spread_61 ?_
            refine tpi (y := nI (fe (a :: K) (und c i - a))) (hg2) ?_
            refine lv_iconst (v := 1) hx hb dX1_spread_62 (by decide) ?_
            refine lv_iadd hx hb dX1_spread_63 ?_
            refine tpi (y := nI (fe (a :: K) (und c i - a) + 1)) (nI_1 _) ?_
            refine lv_istore (lv' := [(6, .int (nI (fe (a :: K) (und c i - a) + 1))), (5, .int (nI (und c i))), (0, .ref (g 0)), (1, .int (nI a)), (2, .int (nI c)), (3, .int (nI (prk c 5))), (4, .int (nI i))]) hx hb dX1_spread_64 hl (by decide) rfl (fun ls hl => ?_)
            refine lv_iload hx hb dX1_spread_66 (lv_at hl 0 rfl) ?_
            refine lv_aload_n hx hb dX1_spread_68 rfl (lv_at hl 2 rfl) ?_
            refine va_get (D := D) (ci := 1) (v := .ref (g 4)) (C := RX1) (T := TX1) (N := 7) hx hb hts in_X1 hown hK hP 0 rfl rfl 6 (by decide) (hts _ q193) (fun _ h9 => h9) rfl dX1_spread_69 ?_
            refine lv_iload hx hb dX1_spread_72 (lv_at hl 1 rfl) ?_
            refine xald hx hb hK hP 4 0 rfl rfl (und c i) (rfl) (by omega) (by decide) dX1_spread_74 ?_
            refine tpi (y := nI (fe K (und c i))) (hat2) ?_
            refine z_ge (X := ((fe (a :: K) (und c i - a) + 1 : Nat) : Int)) (Y := ((fe K (und c i) : Nat) : Int)) (tgt := 87) hx hb dX1_spread_75 (by decide) (nI_toInt (by omega)) (nI_toInt (by omega)) (fun hc7 => ?_) (fun hc7 => ?_)
            · exact jn (upd tm (und c i) (nI (wy (a :: K) (und c i)))) tf _ _ _ (tbs_putM hT hi2 rfl (by omega)) hP hD hS (lv_sub hl [2, 3, 4, 5, 6] rfl)
            · refine lv_aload_n hx hb dX1_spread_78 rfl (lv_at hl 2 rfl) ?_
              refine va_get (D := D) (ci := 1) (v := .ref (g 4)) (C := RX1) (T := TX1) (N := 7) hx hb hts in_X1 hown hK hP 0 rfl rfl 6 (by decide) (hts _ q193) (fun _ h9 => h9) rfl dX1_spread_79 ?_
              refine lv_iload hx hb dX1_spread_82 (lv_at hl 1 rfl) ?_
              refine lv_iload hx hb dX1_spread_84 (lv_at hl 0 rfl) ?_
              refine xast (x := nI (fe (a :: K) (und c i - a) + 1)) hx hb hK hP hD hS 4 0 rfl rfl (und c i) (rfl) (by omega) (by decide) dX1_spread_86 (fun H locs hP hD hS => ?_)
              have hP : va_P D vwCl (wM g d fw fc (upd tm (und c i) (nI (wy (a :: K) (und c i)))) (upd tf (und c i) (nI (fe (a :: K) (und c i - a) + 1))) rdy cnt bal) H := hP
              have hD : va_D A (wM g d fw fc (upd tm (und c i) (nI (wy (a :: K) (und c i)))) (upd tf (und c i) (nI (fe (a :: K) (und c i - a) + 1))) rdy cnt bal) := hD
              exact jn (upd tm (und c i) (nI (wy (a :: K) (und c i)))) (upd tf (und c i) (nI (fe (a :: K) (und c i - a) + 1))) _ _ _ (tbs_put hT hi2 rfl (by congr 1; omega)) hP hD hS (lv_sub hl [2, 3, 4, 5, 6] rfl)
  refine lv_iconst (v := 0) hx hb dX1_spread_0 (by decide) ?_
  refine lv_istore (lv' := [(4, .int 0), (0, .ref (g 0)), (1, .int (nI a)), (2, .int (nI c)), (3, .int (nI (prk c 5)))]) hx hb dX1_spread_1 hl (by decide) rfl (fun ls hl => ?_)
  exact lp _ 0 fm ff _ _ _ (Nat.lt_succ_self _) (by omega) (tbs_start hT0) hP hD hS (lv_sub hl [1, 2, 3, 4, 0] rfl)
abbrev rX1_sums : Room := { frames := 3, cells := 0, slots := 0, locals := 75 }
set_option maxHeartbeats 4000000 in
set_option maxRecDepth 100000 in
theorem metX1_sums {l : Launch} {D : va_G} {d : ClassId} {g : Nat → Nat} {fw fc fm ff : Nat → Int32} {rdy cnt bal : Int32} {hz : Nat} {c : Nat} {L : List Nat} (hL : hli fc L) (hn : cnt = nI L.length) (hlen : L.length ≤ 2000) (hk0 : okl L) (hc0 : c < 16807) : mVO l yX1_sums cX1_sums 5 rX1_sums [.ref (g 0), .int (nI c)] D d (wM g d fw fc fm ff rdy cnt bal) hz (S := (Nat → Int32) × (Nat → Int32)) (fun u => tbl u.1 u.2 c L.reverse) (fun u => wM g d fw fc u.1 u.2 rdy cnt bal) := by
  refine mVO.ofW (by decide) (Nat.le_of_ble_eq_true rfl) ?_
  intro p e s m args below meth mc Q A ls S hP hK hA hS hl hD ret
  have S : CallFix p m mc cX1_sums 5 s args lw_all RX1 := S
  have hx := S.1
  have hb := S.2.1
  have hown := S.2.2.2.1
  have hts := S.2.2.2.2
  have hl : lv_has ls 5 [(0, .ref (g 0)), (1, .int (nI c))] := hl
  subst hn
  have hE := prk_le c
  refine lv_aload_n hx hb dX1_sums_0 rfl (lv_at hl 0 rfl) ?_
  refine lv_iload_n hx hb dX1_sums_1 rfl (lv_at hl 1 rfl) ?_
  refine cRO (As := [.int (nI c)]) (rest := []) S (metX1_parts (c := c) hc0) (cwV 1 hts (lw_V q285 q287 qs21 q26 q288) rfl rfl rfl (by decide +kernel) ⟨Nat.le_of_ble_eq_true rfl, Nat.le_of_ble_eq_true rfl⟩) hK hP hS hA rfl rfl rfl hl.1 rfl (Nat.le_of_ble_eq_true rfl) dX1_sums_2 ⟨Nat.zero_le _, Nat.zero_le _⟩ (fun r9 H locs hr hP hS => ?_)
  obtain rfl : r9 = nI (prk c 5) := hr
  refine lv_istore_n (lv' := [(2, .int (nI (prk c 5))), (0, .ref (g 0)), (1, .int (nI c))]) hx hb dX1_sums_5 rfl hl (by decide) rfl (fun ls hl => ?_)
  have lp2 : ∀ (k : Nat) (j : Nat) (tm tf : Nat → Int32) (H : Heap) (locs : List Loc) (ls : Array Slot), L.length - j < k → j ≤ L.length → tbl tm tf c (L.take j).reverse → va_P D vwCl (wM g d fw fc tm tf rdy (nI L.length) bal) H → va_D A (wM g d fw fc tm tf rdy (nI L.length) bal) → va_S A s.heap H locs → lv_has ls 5 [(0, .ref (g 0)), (1, .int (nI c)), (2, .int (nI (prk c 5))), (3, .int (nI j))] → W p l e rX1_sums s m args below meth mc H locs 0 0 Q (F0 m 65 ls []) := by
    intro k
    induction k with
    | zero =>
      intro j tm tf H locs ls hk
      exact absurd hk (Nat.not_lt_zero _)
    | succ k ih =>
      intro j tm tf H locs ls hk hj hT hP hD hS hl
      refine lv_iload_n hx hb dX1_sums_65 rfl (lv_at hl 3 rfl) ?_
      refine lv_aload_n hx hb dX1_sums_66 rfl (lv_at hl 0 rfl) ?_
      refine va_get (D := D) (ci := 1) (v := .int (nI L.length)) (C := RX1) (T := TX1) (N := 7) hx hb hts in_X1 hown hK hP 0 rfl rfl 2 (by decide) (hts _ q189) (fun _ h9 => h9) rfl dX1_sums_67 ?_
      refine z_ge (X := ((j : Nat) : Int)) (Y := ((L.length : Nat) : Int)) (tgt := 112) hx hb dX1_sums_70 (by decide) (nI_toInt (by omega)) (nI_toInt (by omega)) (fun hc5 => ?_) (fun hc5 => ?_)
      · obtain rfl : j = L.length := (by omega)
        rw [List.take_length] at hT
        exact ret ((tm, tf)) _ _ _ _ dX1_sums_112 (hT) hP hD hS
      · have hj2 : j < L.length := by omega
        obtain ⟨a0, a1⟩ := hk0 _ (getD_mem hj2)
        have hrv : (L.take (j + 1)).reverse = L.getD j 0 :: (L.take j).reverse := by rw [take_getD hj2, List.reverse_append]; rfl
        have hko : okl (L.take j).reverse := fun a ha => hk0 a (List.mem_of_mem_take (List.mem_reverse.mp ha))
        refine lv_iload_n hx hb dX1_sums_73 rfl (lv_at hl 3 rfl) ?_
        refine lv_sipush (v := 2000) hx hb dX1_sums_74 (by decide) ?_
        refine z_ge (X := ((j : Nat) : Int)) (Y := 2000) (tgt := 112) hx hb dX1_sums_77 (by decide) (nI_toInt (by omega)) (by decide) (fun hc6 => ?_) (fun hc6 => ?_)
        · omega
        · refine lv_aload_n hx hb dX1_sums_80 rfl (lv_at hl 0 rfl) ?_
          refine lv_aload_n hx hb dX1_sums_81 rfl (lv_at hl 0 rfl) ?_
          refine va_get (D := D) (ci := 1) (v := .ref (g 2)) (C := RX1) (T := TX1) (N := 7) hx hb hts in_X1 hown hK hP 0 rfl rfl 4 (by decide) (hts _ q191) (fun _ h9 => h9) rfl dX1_sums_82 ?_
          refine lv_iload_n hx hb dX1_sums_85 rfl (lv_at hl 3 rfl) ?_
          refine xald hx hb hK hP 2 0 rfl rfl (j) (rfl) (by omega) (by decide) dX1_sums_86 ?_
          refine tpi (y := nI (L.getD j 0)) (hL j hj2) ?_
          refine lv_iload_n hx hb dX1_sums_87 rfl (lv_at hl 1 rfl) ?_
          refine cRO (As := [.int (nI (L.getD j 0)), .int (nI c)]) (rest := []) S (metX1_part (a := L.getD j 0) (b := c) a1 hc0) (cwV 2 hts (lw_V q249 q251 qs18 q26 q252) rfl rfl rfl (by decide +kernel) ⟨Nat.le_of_ble_eq_true rfl, Nat.le_of_ble_eq_true rfl⟩) hK hP hS hA rfl rfl rfl hl.1 rfl (Nat.le_of_ble_eq_true rfl) dX1_sums_88 ⟨Nat.zero_le _, Nat.zero_le _⟩ (fun r9 H locs hr hP hS => ?_)
          obtain rfl : r9 = bI (pt (L.getD j 0) c) := hr
          refine b_eq (b := pt (L.getD j 0) c) (tgt := 106) hx hb dX1_sums_91 (by decide) (fun hpt => ?_) (fun hpt => ?_)
          · refine lv_iinc (v := nI (j + 1)) (lv' := [(3, .int (nI (j + 1))), (0, .ref (g 0)), (1, .int (nI c)), (2, .int (nI (prk c 5)))]) hx hb dX1_sums_106 hl (k := 3) rfl (nI_1 _) (by decide) rfl (fun ls hl => ?_)
            refine lv_goto (tgt := 65) hx hb dX1_sums_109 (by decide) ?_
            exact ih (j + 1) tm tf _ _ _ (by omega) (by omega) (by rw [hrv]; exact fun v hv hp => by have q : ¬ pt (L.getD j 0) v = true := fun z => (by rw [pt_trans z hp] at hpt; cases hpt); rw [wy_neg a0 a1 hv q, fe_neg a0 a1 hv q]; exact hT v hv hp) hP hD hS (lv_sub hl [1, 2, 3, 0] rfl)
          · refine lv_aload_n hx hb dX1_sums_94 rfl (lv_at hl 0 rfl) ?_
            refine lv_aload_n hx hb dX1_sums_95 rfl (lv_at hl 0 rfl) ?_
            refine va_get (D := D) (ci := 1) (v := .ref (g 2)) (C := RX1) (T := TX1) (N := 7) hx hb hts in_X1 hown hK hP 0 rfl rfl 4 (by decide) (hts _ q191) (fun _ h9 => h9) rfl dX1_sums_96 ?_
            refine lv_iload_n hx hb dX1_sums_99 rfl (lv_at hl 3 rfl) ?_
            refine xald hx hb hK hP 2 0 rfl rfl (j) (rfl) (by omega) (by decide) dX1_sums_100 ?_
            refine tpi (y := nI (L.getD j 0)) (hL j hj2) ?_
            refine lv_iload_n hx hb dX1_sums_101 rfl (lv_at hl 1 rfl) ?_
            refine lv_iload_n hx hb dX1_sums_102 rfl (lv_at hl 2 rfl) ?_
            refine cVO (As := [.int (nI (L.getD j 0)), .int (nI c), .int (nI (prk c 5))]) (rest := []) S (metX1_spread (a := L.getD j 0) (c := c) (K := (L.take j).reverse) a0 a1 hc0 hko hT) (cwV 3 hts (lw_V q293 q295 qs23 q26 q296) rfl rfl rfl (by decide +kernel) ⟨Nat.le_of_ble_eq_true rfl, Nat.le_of_ble_eq_true rfl⟩) hK hP hD hS hA rfl rfl rfl hl.1 rfl (Nat.le_of_ble_eq_true rfl) dX1_sums_103 ⟨Nat.zero_le _, Nat.zero_le _⟩ (fun u H locs hu hP hD hS => ?_)
            obtain ⟨tm3, tf3⟩ := u
            have hT3 : tbl tm3 tf3 c (L.getD j 0 :: (L.take j).reverse) := hu
            have hP : va_P D vwCl (wM g d fw fc tm3 tf3 rdy (nI L.length) bal) H := hP
            have hD : va_D A (wM g d fw fc tm3 tf3 rdy (nI L.length) bal) := hD
            refine lv_iinc (v := nI (j + 1)) (lv' := [(3, .int (nI (j + 1))), (0, .ref (g 0)), (1, .int (nI c)), (2, .int (nI (prk c 5)))]) hx hb dX1_sums_106 hl (k := 3) rfl (nI_1 _) (by decide) rfl (fun ls hl => ?_)
            refine lv_goto (tgt := 65) hx hb dX1_sums_109 (by decide) ?_
            exact ih (j + 1) tm3 tf3 _ _ _ (by omega) (by omega) (by rw [hrv]; exact hT3) hP hD hS (lv_sub hl [1, 2, 3, 0] rfl)
  have lp : ∀ (k : Nat) (i : Nat) (tm tf : Nat → Int32) (H : Heap) (locs : List Loc) (ls : Array Slot), prk c 5 - i < k → i ≤ prk c 5 → (∀ x, x < i → x < prk c 5 → tm (und c x) = nI (wy [] (und c x)) ∧ tf (und c x) = nI (fe [] (und c x))) → va_P D vwCl (wM g d fw fc tm tf rdy (nI L.length) bal) H → va_D A (wM g d fw fc tm tf rdy (nI L.length) bal) → va_S A s.heap H locs → lv_has ls 5 [(0, .ref (g 0)), (1, .int (nI c)), (2, .int (nI (prk c 5))), (3, .int (nI i))] → W p l e rX1_sums s m args below meth mc H locs 0 0 Q (F0 m 8 ls []) := by
    intro k
    induction k with
    | zero =>
      intro i tm tf H locs ls hk
      exact absurd hk (Nat.not_lt_zero _)
    | succ k ih =>
      intro i tm tf H locs ls hk hi hZ hP hD hS hl
      refine lv_iload_n hx hb dX1_sums_8 rfl (lv_at hl 3 rfl) ?_
      refine lv_iload_n hx hb dX1_sums_9 rfl (lv_at hl 2 rfl) ?_
      refine z_ge (X := ((i : Nat) : Int)) (Y := ((prk c 5 : Nat) : Int)) (tgt := 63) hx hb dX1_sums_10 (by decide) (nI_toInt (by omega)) (nI_toInt (by omega)) (fun hc5 => ?_) (fun hc5 => ?_)
      · refine lv_iconst (v := 0) hx hb dX1_sums_63 (by decide) ?_
        refine lv_istore_n (lv' := [(3, .int 0), (0, .ref (g 0)), (1, .int (nI c)), (2, .int (nI (prk c 5)))]) hx hb dX1_sums_64 rfl hl (by decide) rfl (fun ls hl => ?_)
        exact lp2 _ 0 tm tf _ _ _ (Nat.lt_succ_self _) (by omega) (fun v hv hp => by obtain ⟨x, hx, rfl⟩ := und_surj hv hp; exact hZ x (by omega) hx) hP hD hS (lv_sub hl [1, 2, 3, 0] rfl)
      · have hi2 : i < prk c 5 := by omega
        obtain ⟨hv1, hv2⟩ := und_pt (c := c) i
        refine lv_aload_n hx hb dX1_sums_13 rfl (lv_at hl 0 rfl) ?_
        refine lv_iload_n hx hb dX1_sums_14 rfl (lv_at hl 1 rfl) ?_
        refine lv_iload_n hx hb dX1_sums_15 rfl (lv_at hl 3 rfl) ?_
        refine cRO (As := [.int (nI c), .int (nI i)]) (rest := []) S (metX1_under (c := c) (x := i) hc0 (by omega)) (cwV 2 hts (lw_V q289 q291 qs22 q26 q292) rfl rfl rfl (by decide +kernel) ⟨Nat.le_of_ble_eq_true rfl, Nat.le_of_ble_eq_true rfl⟩) hK hP hS hA rfl rfl rfl hl.1 rfl (Nat.le_of_ble_eq_true rfl) dX1_sums_16 ⟨Nat.zero_le _, Nat.zero_le _⟩ (fun r9 H locs hr hP hS => ?_)
        obtain rfl : r9 = nI (und c i) := hr
        refine lv_istore (lv' := [(4, .int (nI (und c i))), (0, .ref (g 0)), (1, .int (nI c)), (2, .int (nI (prk c 5))), (3, .int (nI i))]) hx hb dX1_sums_19 hl (by decide) rfl (fun ls hl => ?_)
        refine lv_aload_n hx hb dX1_sums_21 rfl (lv_at hl 1 rfl) ?_
        refine va_get (D := D) (ci := 1) (v := .ref (g 3)) (C := RX1) (T := TX1) (N := 7) hx hb hts in_X1 hown hK hP 0 rfl rfl 5 (by decide) (hts _ q192) (fun _ h9 => h9) rfl dX1_sums_22 ?_
        refine lv_iload hx hb dX1_sums_25 (lv_at hl 0 rfl) ?_
        refine lv_iload hx hb dX1_sums_27 (lv_at hl 0 rfl) ?_
        have hput : tbs (upd tm (und c i) (nI (wy [] (und c i)))) (upd tf (und c i) (nI (fe [] (und c i)))) c [] [] 0 → True := fun _ => trivial
        have jf : ∀  (H : Heap) (locs : List Loc) (ls : Array Slot), va_P D vwCl (wM g d fw fc (upd tm (und c i) (nI (wy [] (und c i)))) tf rdy (nI L.length) bal) H → va_D A (wM g d fw fc (upd tm (und c i) (nI (wy [] (und c i)))) tf rdy (nI L.length) bal) → va_S A s.heap H locs → lv_has ls 5 [(0, .ref (g 0)), (1, .int (nI c)), (2, .int (nI (prk c 5))), (3, .int (nI i)), (4, .int (nI (und c i)))] → W p l e rX1_sums s m args below meth mc H locs 0 0 Q (F0 m 56 ls [.int (nI (fe [] (und c i))), .int (nI (und c i)), .ref (g 4)]) := by
          intro  H locs ls  hP hD hS hl
          refine xast (x := nI (fe [] (und c i))) hx hb hK hP hD hS 4 0 rfl rfl (und c i) (rfl) (by omega) (by decide) dX1_sums_56 (fun H locs hP hD hS => ?_)
          have hP : va_P D vwCl (wM g d fw fc (upd tm (und c i) (nI (wy [] (und c i)))) (upd tf (und c i) (nI (fe [] (und c i)))) rdy (nI L.length) bal) H := hP
          have hD : va_D A (wM g d fw fc (upd tm (und c i) (nI (wy [] (und c i)))) (upd tf (und c i) (nI (fe [] (und c i)))) rdy (nI L.length) bal) := hD
          refine lv_iinc (v := nI (i + 1)) (lv' := [(3, .int (nI (i + 1))), (0, .ref (g 0)), (1, .int (nI c)), (2, .int (nI (prk c 5))), (4, .int (nI (und c i)))]) hx hb dX1_sums_57 hl (k := 3) rfl (nI_1 _) (by decide) rfl (fun ls hl => ?_)
          refine lv_goto (tgt := 8) hx hb dX1_sums_60 (by decide) ?_
          exact ih (i + 1) (upd tm (und c i) (nI (wy [] (und c i)))) (upd tf (und c i) (nI (fe [] (und c i)))) _ _ _ (by omega) (by omega) (ini_step hZ hi2) hP hD hS (lv_sub hl [1, 2, 3, 0] rfl)
        have jm : ∀  (H : Heap) (locs : List Loc) (ls : Array Slot), va_P D vwCl (wM g d fw fc tm tf rdy (nI L.length) bal) H → va_D A (wM g d fw fc tm tf rdy (nI L.length) bal) → va_S A s.heap H locs → lv_has ls 5 [(0, .ref (g 0)), (1, .int (nI c)), (2, .int (nI (prk c 5))), (3, .int (nI i)), (4, .int (nI (und c i)))] → W p l e rX1_sums s m args below meth mc H locs 0 0 Q (F0 m 37 ls [.int (nI (wy [] (und c i))), .int (nI (und c i)), .ref (g 3)]) := by
          intro  H locs ls  hP hD hS hl
          refine xast (x := nI (wy [] (und c i))) hx hb hK hP hD hS 3 0 rfl rfl (und c i) (rfl) (by omega) (by decide) dX1_sums_37 (fun H locs hP hD hS => ?_)
          have hP : va_P D vwCl (wM g d fw fc (upd tm (und c i) (nI (wy [] (und c i)))) tf rdy (nI L.length) bal) H := hP
          have hD : va_D A (wM g d fw fc (upd tm (und c i) (nI (wy [] (und c i)))) tf rdy (nI L.length) bal) := hD
          refine lv_aload_n hx hb dX1_sums_38 rfl (lv_at hl 0 rfl) ?_
          refine va_get (D := D) (ci := 1) (v := .ref (g 4)) (C := RX1) (T := TX1) (N := 7) hx hb hts in_X1 hown hK hP 0 rfl rfl 6 (by decide) (hts _ q193) (fun _ h9 => h9) rfl dX1_sums_39 ?_
          refine lv_iload hx hb dX1_sums_42 (lv_at hl 4 rfl) ?_
          refine lv_iload hx hb dX1_sums_44 (lv_at hl 4 rfl) ?_
          refine z0_ne (X := ((und c i : Nat) : Int)) (tgt := 53) hx hb dX1_sums_46 (by decide) (nI_toInt (by omega)) (fun hc7 => ?_) (fun hc7 => ?_)
          · refine lv_sipush (v := 1000) hx hb dX1_sums_53 (by decide) ?_
            refine tpi (y := nI (fe [] (und c i))) (by rw [fe_nil, if_neg (by omega)]; rfl) ?_
            exact jf  _ _ _  hP hD hS (lv_sub hl [0, 1, 2, 3, 4] rfl)
          · refine lv_iconst (v := 0) hx hb dX1_sums_49 (by decide) ?_
            refine lv_goto (tgt := 56) hx hb dX1_sums_50 (by decide) ?_
            refine tpi (y := nI (fe [] (und c i))) (by rw [fe_nil, if_pos (by omega)]; rfl) ?_
            exact jf  _ _ _  hP hD hS (lv_sub hl [0, 1, 2, 3, 4] rfl)
        refine z0_ne (X := ((und c i : Nat) : Int)) (tgt := 36) hx hb dX1_sums_29 (by decide) (nI_toInt (by omega)) (fun hc6 => ?_) (fun hc6 => ?_)
        · refine lv_iconst (v := 0) hx hb dX1_sums_36 (by decide) ?_
          refine tpi (y := nI (wy [] (und c i))) (by rw [wy_nil, if_neg (by omega)]; rfl) ?_
          exact jm  _ _ _  hP hD hS (lv_sub hl [1, 2, 3, 4, 0] rfl)
        · refine lv_iconst (v := 1) hx hb dX1_sums_32 (by decide) ?_
          refine lv_goto (tgt := 37) hx hb dX1_sums_33 (by decide) ?_
          refine tpi (y := nI (wy [] (und c i))) (by rw [wy_nil, if_pos (by omega)]; rfl) ?_
          exact jm  _ _ _  hP hD hS (lv_sub hl [1, 2, 3, 4, 0] rfl)
  refine lv_iconst (v := 0) hx hb dX1_sums_6 (by decide) ?_
  refine lv_istore_n (lv' := [(3, .int 0), (2, .int (nI (prk c 5))), (0, .ref (g 0)), (1, .int (nI c))]) hx hb dX1_sums_7 rfl hl (by decide) rfl (fun ls hl => ?_)
  exact lp _ 0 fm ff _ _ _ (Nat.lt_succ_self _) (by omega) (fun k hk => absurd hk (Nat.not_lt_zero _)) hP hD hS (lv_sub hl [2, 3, 1, 0] rfl)
end
section
/-! the reference's public methods -/
def mbg (w : Nat → Int) (n x y : Nat) : Nat := l3 w (n - x - y) (-(x : Int) * w 0 - (y : Int) * w 1)
def mbr (w : Nat → Int) (n x : Nat) : Nat := sumk (mbg w n x) (n - x + 1)
theorem mbal_r (w : Nat → Int) (n : Nat) : mbal w n = sumk (mbr w n) (n + 1) := rfl
theorem iI_neg (a : Int) : -iI a = iI (-a) := (Int32.ofInt_neg a).symm
theorem wy_rev (w : Nat → Int) {c : Nat} (hc : c < 16807) : wy (LL w).reverse c = wy (LL w) c := (wy_perm (List.reverse_perm (LL w)).symm (LL_ok w) hc).symm
theorem fe_rev (w : Nat → Int) {c : Nat} (hc : c < 16807) : fe (LL w).reverse c = fe (LL w) c := (fe_perm (List.reverse_perm (LL w)).symm (LL_ok w) hc).symm
abbrev rX1_set : Room := { frames := 0, cells := 0, slots := 0, locals := 0 }
set_option maxHeartbeats 4000000 in
set_option maxRecDepth 100000 in
theorem metX1_set {l : Launch} {D : va_G} {d : ClassId} {g : Nat → Nat} {fw fc fm ff : Nat → Int32} {rdy cnt bal : Int32} {hz : Nat} {w : Nat → Int} {x y : Int32} (hI : InvM w (fw, fc, fm, ff, rdy, cnt, bal)) : mIO l yX1_set cX1_set 4 .int rX1_set [.ref (g 0), .int x, .int y] D d (wM g d fw fc fm ff rdy cnt bal) hz (S := SM) (fun r u => r = aSet w x y ∧ InvM (nSet w x y) u) (fun u => wSM g d u) := by
  refine mIO.ofW (by decide) (Nat.le_of_ble_eq_true rfl) ?_
  intro p e s m args below meth mc Q A ls S hP hK hA hS hl hD ret
  have S : CallFix p m mc cX1_set 4 s args lw_all RX1 := S
  have hx := S.1
  have hb := S.2.1
  have hown := S.2.2.2.1
  have hts := S.2.2.2.2
  have hl : lv_has ls 4 [(0, .ref (g 0)), (1, .int x), (2, .int y)] := hl
  obtain ⟨ho, hw, hi⟩ := hI
  have hw : hww fw w := hw
  have hi : rdy = 0 ∨ (rdy = 1 ∧ hli fc (LL w) ∧ cnt = nI (LL w).length ∧ bal = nI (smc w 16807)) := hi
  refine lv_iload_n hx hb dX1_set_0 rfl (lv_at hl 1 rfl) ?_
  refine z0_lt (X := x.toInt) (tgt := 9) hx hb dX1_set_1 (by decide) rfl (fun hc1 => ?_) (fun hc1 => ?_)
  · refine lv_iconst (v := -1) hx hb dX1_set_9 (by decide) ?_
    have q := aSet_1 (w := w) (x := x) (y := y) (by omega)
    exact ret _ ((fw, fc, fm, ff, rdy, cnt, bal)) _ _ _ _ dX1_set_10 (rfl) (⟨q.1.symm, by rw [q.2]; exact ⟨ho, hw, hi⟩⟩) hP hD hS
  · refine lv_iload_n hx hb dX1_set_4 rfl (lv_at hl 1 rfl) ?_
    refine lv_iconst (v := 4) hx hb dX1_set_5 (by decide) ?_
    refine z_le (X := x.toInt) (Y := 4) (tgt := 11) hx hb dX1_set_6 (by decide) rfl (by decide) (fun hc2 => ?_) (fun hc2 => ?_)
    · obtain ⟨i, hi5, rfl⟩ := of_range (N := 5) (x := x) (by omega)
      refine lv_iload_n hx hb dX1_set_11 rfl (lv_at hl 2 rfl) ?_
      refine lv_bipush (v := -6) hx hb dX1_set_12 (by decide) ?_
      refine z_lt (X := y.toInt) (Y := (-6)) (tgt := 23) hx hb dX1_set_14 (by decide) rfl (by decide) (fun hc3 => ?_) (fun hc3 => ?_)
      · refine lv_bipush (v := -2) hx hb dX1_set_23 (by decide) ?_
        have q := aSet_2 (w := w) (y := y) hi5 (by omega)
        exact ret _ ((fw, fc, fm, ff, rdy, cnt, bal)) _ _ _ _ dX1_set_25 (rfl) (⟨q.1.symm, by rw [q.2]; exact ⟨ho, hw, hi⟩⟩) hP hD hS
      · refine lv_iload_n hx hb dX1_set_17 rfl (lv_at hl 2 rfl) ?_
        refine lv_bipush (v := 6) hx hb dX1_set_18 (by decide) ?_
        refine z_le (X := y.toInt) (Y := 6) (tgt := 26) hx hb dX1_set_20 (by decide) rfl (by decide) (fun hc4 => ?_) (fun hc4 => ?_)
        · refine lv_aload_n hx hb dX1_set_26 rfl (lv_at hl 0 rfl) ?_
          refine va_get (D := D) (ci := 1) (v := .ref (g 1)) (C := RX1) (T := TX1) (N := 7) hx hb hts in_X1 hown hK hP 0 rfl rfl 0 (by decide) (hts _ q187) (fun _ h9 => h9) rfl dX1_set_27 ?_
          refine lv_iload_n hx hb dX1_set_30 rfl (lv_at hl 1 rfl) ?_
          refine xald hx hb hK hP 1 0 rfl rfl (i) (rfl) (by omega) (by decide) dX1_set_31 ?_
          refine tpi (y := iI (w i)) (hw i hi5) ?_
          refine lv_istore_n (lv' := [(3, .int (iI (w i))), (0, .ref (g 0)), (1, .int (nI i)), (2, .int y)]) hx hb dX1_set_32 rfl hl (by decide) rfl (fun ls hl => ?_)
          refine lv_aload_n hx hb dX1_set_33 rfl (lv_at hl 1 rfl) ?_
          refine va_get (D := D) (ci := 1) (v := .ref (g 1)) (C := RX1) (T := TX1) (N := 7) hx hb hts in_X1 hown hK hP 0 rfl rfl 0 (by decide) (hts _ q187) (fun _ h9 => h9) rfl dX1_set_34 ?_
          refine lv_iload_n hx hb dX1_set_37 rfl (lv_at hl 2 rfl) ?_
          refine lv_iload_n hx hb dX1_set_38 rfl (lv_at hl 3 rfl) ?_
          refine xast (x := y) hx hb hK hP hD hS 1 0 rfl rfl (i) (rfl) (by omega) (by decide) dX1_set_39 (fun H locs hP hD hS => ?_)
          have hP : va_P D vwCl (wM g d (upd fw i y) fc fm ff rdy cnt bal) H := hP
          have hD : va_D A (wM g d (upd fw i y) fc fm ff rdy cnt bal) := hD
          refine lv_aload_n hx hb dX1_set_40 rfl (lv_at hl 1 rfl) ?_
          refine lv_iconst (v := 0) hx hb dX1_set_41 (by decide) ?_
          refine va_put (D := D) (ci := 1) (v := .int 0) (ty := .boolean) (C := RX1) (T := TX1) (N := 7) hx hb hts in_X1 tyX1 tyX1_ok nmX1 hown hK hP hD hS 0 rfl rfl 1 (by decide) (hts _ q188) (fun _ h9 => h9) rfl (by decide +kernel) rfl rfl (Nat.le_of_ble_eq_true rfl) dX1_set_42 (fun H locs hP hD hS => ?_)
          have hP : va_P D vwCl (wM g d (upd fw i y) fc fm ff 0 cnt bal) H := hP
          have hD : va_D A (wM g d (upd fw i y) fc fm ff 0 cnt bal) := hD
          refine lv_iload_n hx hb dX1_set_45 rfl (lv_at hl 0 rfl) ?_
          exact ret _ ((upd fw i y, fc, fm, ff, 0, cnt, bal)) _ _ _ _ dX1_set_46 (rfl) (⟨(aSet_0 hi5 (by omega)).symm, ⟨okw_set ho, hww_set hw hi5 (by omega), Or.inl rfl⟩⟩) hP hD hS
        · refine lv_bipush (v := -2) hx hb dX1_set_23 (by decide) ?_
          have q := aSet_2 (w := w) (y := y) hi5 (by omega)
          exact ret _ ((fw, fc, fm, ff, rdy, cnt, bal)) _ _ _ _ dX1_set_25 (rfl) (⟨q.1.symm, by rw [q.2]; exact ⟨ho, hw, hi⟩⟩) hP hD hS
    · refine lv_iconst (v := -1) hx hb dX1_set_9 (by decide) ?_
      have q := aSet_1 (w := w) (x := x) (y := y) (by omega)
      exact ret _ ((fw, fc, fm, ff, rdy, cnt, bal)) _ _ _ _ dX1_set_10 (rfl) (⟨q.1.symm, by rw [q.2]; exact ⟨ho, hw, hi⟩⟩) hP hD hS
abbrev rX1_sow : Room := { frames := 0, cells := 0, slots := 0, locals := 0 }
set_option maxHeartbeats 4000000 in
set_option maxRecDepth 100000 in
theorem metX1_sow {l : Launch} {D : va_G} {d : ClassId} {g : Nat → Nat} {fw fc fm ff : Nat → Int32} {rdy cnt bal : Int32} {hz : Nat} {w : Nat → Int} {x y : Int32} (hI : InvM w (fw, fc, fm, ff, rdy, cnt, bal)) : mIO l yX1_sow cX1_sow 5 .int rX1_sow [.ref (g 0), .int x, .int y] D d (wM g d fw fc fm ff rdy cnt bal) hz (S := SM) (fun r u => r = aSow x y ∧ InvM (nSow w x y) u) (fun u => wSM g d u) := by
  refine mIO.ofW (by decide) (Nat.le_of_ble_eq_true rfl) ?_
  intro p e s m args below meth mc Q A ls S hP hK hA hS hl hD ret
  have S : CallFix p m mc cX1_sow 5 s args lw_all RX1 := S
  have hx := S.1
  have hb := S.2.1
  have hown := S.2.2.2.1
  have hts := S.2.2.2.2
  have hl : lv_has ls 5 [(0, .ref (g 0)), (1, .int x), (2, .int y)] := hl
  obtain ⟨ho, hw, hi⟩ := hI
  have hw : hww fw w := hw
  have hi : rdy = 0 ∨ (rdy = 1 ∧ hli fc (LL w) ∧ cnt = nI (LL w).length ∧ bal = nI (smc w 16807)) := hi
  refine lv_iload_n hx hb dX1_sow_0 rfl (lv_at hl 1 rfl) ?_
  refine z0_lt (X := x.toInt) (tgt := 10) hx hb dX1_sow_1 (by decide) rfl (fun hc1 => ?_) (fun hc1 => ?_)
  · refine lv_iconst (v := -1) hx hb dX1_sow_10 (by decide) ?_
    have q := aSow_1 (w := w) (x := x) (y := y) (by omega)
    exact ret _ ((fw, fc, fm, ff, rdy, cnt, bal)) _ _ _ _ dX1_sow_11 (rfl) (⟨q.1.symm, by rw [q.2]; exact ⟨ho, hw, hi⟩⟩) hP hD hS
  · refine lv_iload_n hx hb dX1_sow_4 rfl (lv_at hl 1 rfl) ?_
    refine lv_bipush (v := 12) hx hb dX1_sow_5 (by decide) ?_
    refine z_le (X := x.toInt) (Y := 12) (tgt := 12) hx hb dX1_sow_7 (by decide) rfl (by decide) (fun hc2 => ?_) (fun hc2 => ?_)
    · obtain ⟨a, ha, rfl⟩ := of_range (N := 13) (x := x) (by omega)
      refine lv_iload_n hx hb dX1_sow_12 rfl (lv_at hl 2 rfl) ?_
      refine z0_lt (X := y.toInt) (tgt := 22) hx hb dX1_sow_13 (by decide) rfl (fun hc3 => ?_) (fun hc3 => ?_)
      · refine lv_bipush (v := -2) hx hb dX1_sow_22 (by decide) ?_
        have q := aSow_2 (w := w) (y := y) ha (by omega)
        exact ret _ ((fw, fc, fm, ff, rdy, cnt, bal)) _ _ _ _ dX1_sow_24 (rfl) (⟨q.1.symm, by rw [q.2]; exact ⟨ho, hw, hi⟩⟩) hP hD hS
      · refine lv_iload_n hx hb dX1_sow_16 rfl (lv_at hl 2 rfl) ?_
        refine lv_bipush (v := 12) hx hb dX1_sow_17 (by decide) ?_
        refine z_le (X := y.toInt) (Y := 12) (tgt := 25) hx hb dX1_sow_19 (by decide) rfl (by decide) (fun hc4 => ?_) (fun hc4 => ?_)
        · obtain ⟨b, hb0, rfl⟩ := of_range (N := 13) (x := y) (by omega)
          have lp : ∀ (k : Nat) (i : Nat) (tw : Nat → Int32) (H : Heap) (locs : List Loc) (ls : Array Slot), 5 - i < k → i ≤ 5 → (∀ k, k < i → tw k = iI (swv a b k)) → va_P D vwCl (wM g d tw fc fm ff rdy cnt bal) H → va_D A (wM g d tw fc fm ff rdy cnt bal) → va_S A s.heap H locs → lv_has ls 5 [(0, .ref (g 0)), (1, .int (nI a)), (2, .int (nI b)), (3, .int (iI (swk a b i))), (4, .int (nI i))] → W p l e rX1_sow s m args below meth mc H locs 0 0 Q (F0 m 30 ls []) := by
            intro k
            induction k with
            | zero =>
              intro i tw H locs ls hk
              exact absurd hk (Nat.not_lt_zero _)
            | succ k ih =>
              intro i tw H locs ls hk hi5 hT hP hD hS hl
              refine lv_iload hx hb dX1_sow_30 (lv_at hl 4 rfl) ?_
              refine lv_iconst (v := 5) hx hb dX1_sow_32 (by decide) ?_
              refine z_ge (X := ((i : Nat) : Int)) (Y := 5) (tgt := 79) hx hb dX1_sow_33 (by decide) (nI_toInt (by omega)) (by decide) (fun hc5 => ?_) (fun hc5 => ?_)
              · obtain rfl : i = 5 := (by omega)
                refine lv_aload_n hx hb dX1_sow_79 rfl (lv_at hl 0 rfl) ?_
                refine lv_iconst (v := 0) hx hb dX1_sow_80 (by decide) ?_
                refine va_put (D := D) (ci := 1) (v := .int 0) (ty := .boolean) (C := RX1) (T := TX1) (N := 7) hx hb hts in_X1 tyX1 tyX1_ok nmX1 hown hK hP hD hS 0 rfl rfl 1 (by decide) (hts _ q188) (fun _ h9 => h9) rfl (by decide +kernel) rfl rfl (Nat.le_of_ble_eq_true rfl) dX1_sow_81 (fun H locs hP hD hS => ?_)
                have hP : va_P D vwCl (wM g d tw fc fm ff 0 cnt bal) H := hP
                have hD : va_D A (wM g d tw fc fm ff 0 cnt bal) := hD
                refine lv_iload_n hx hb dX1_sow_84 rfl (lv_at hl 3 rfl) ?_
                have q := aSow_0 (w := w) ha hb0
                exact ret _ ((tw, fc, fm, ff, 0, cnt, bal)) _ _ _ _ dX1_sow_85 (rfl) (⟨q.1.symm, by rw [q.2]; exact ⟨fun _ _ => swv_b _ _ _, fun k hk => hT k hk, Or.inl rfl⟩⟩) hP hD hS
              · have hbi : b * i * i ≤ 12 * 4 * 4 := Nat.mul_le_mul (Nat.mul_le_mul (by omega) (by omega)) (by omega)
                refine lv_aload_n hx hb dX1_sow_36 rfl (lv_at hl 0 rfl) ?_
                refine va_get (D := D) (ci := 1) (v := .ref (g 1)) (C := RX1) (T := TX1) (N := 7) hx hb hts in_X1 hown hK hP 0 rfl rfl 0 (by decide) (hts _ q187) (fun _ h9 => h9) rfl dX1_sow_37 ?_
                refine lv_iload hx hb dX1_sow_40 (lv_at hl 4 rfl) ?_
                refine lv_iload_n hx hb dX1_sow_42 rfl (lv_at hl 1 rfl) ?_
                refine lv_iconst (v := 5) hx hb dX1_sow_43 (by decide) ?_
                refine lv_iload hx hb dX1_sow_44 (lv_at hl 4 rfl) ?_
                refine lv_imul hx hb dX1_sow_46 ?_
                refine tpi (y := nI (5 * i)) (pk_mul 5 i) ?_
                refine lv_iadd hx hb dX1_sow_47 ?_
                refine tpi (y := nI (a + 5 * i)) (nI_add _ _) ?_
                refine lv_iload_n hx hb dX1_sow_48 rfl (lv_at hl 2 rfl) ?_
                refine lv_iload hx hb dX1_sow_49 (lv_at hl 4 rfl) ?_
                refine lv_imul hx hb dX1_sow_51 ?_
                refine tpi (y := nI (b * i)) (pk_mul _ _) ?_
                refine lv_iload hx hb dX1_sow_52 (lv_at hl 4 rfl) ?_
                refine lv_imul hx hb dX1_sow_54 ?_
                refine tpi (y := nI (b * i * i)) (pk_mul _ _) ?_
                refine lv_iadd hx hb dX1_sow_55 ?_
                refine tpi (y := nI (a + 5 * i + b * i * i)) (nI_add _ _) ?_
                refine lv_bipush (v := 13) hx hb dX1_sow_56 (by decide) ?_
                refine lv_irem hx hb dX1_sow_58 (by decide) ?_
                refine tpi (y := nI ((a + 5 * i + b * i * i) % 13)) (pk_rem (d := 13) (by omega) (by decide) (by decide)) ?_
                refine lv_bipush (v := 6) hx hb dX1_sow_59 (by decide) ?_
                refine lv_isub hx hb dX1_sow_61 ?_
                refine tpi (y := iI (swv a b i)) (by rw [nI_iI]; exact iI_sub _ 6) ?_
                refine xast (x := iI (swv a b i)) hx hb hK hP hD hS 1 0 rfl rfl (i) (rfl) (by omega) (by decide) dX1_sow_62 (fun H locs hP hD hS => ?_)
                have hP : va_P D vwCl (wM g d (upd tw i (iI (swv a b i))) fc fm ff rdy cnt bal) H := hP
                have hD : va_D A (wM g d (upd tw i (iI (swv a b i))) fc fm ff rdy cnt bal) := hD
                refine lv_iload_n hx hb dX1_sow_63 rfl (lv_at hl 3 rfl) ?_
                refine lv_aload_n hx hb dX1_sow_64 rfl (lv_at hl 0 rfl) ?_
                refine va_get (D := D) (ci := 1) (v := .ref (g 1)) (C := RX1) (T := TX1) (N := 7) hx hb hts in_X1 hown hK hP 0 rfl rfl 0 (by decide) (hts _ q187) (fun _ h9 => h9) rfl dX1_sow_65 ?_
                refine lv_iload hx hb dX1_sow_68 (lv_at hl 4 rfl) ?_
                refine xald hx hb hK hP 1 0 rfl rfl (i) (rfl) (by omega) (by decide) dX1_sow_70 ?_
                refine tpi (y := iI (swv a b i)) (pk_us) ?_
                refine lv_iadd hx hb dX1_sow_71 ?_
                refine tpi (y := iI (swk a b (i + 1))) (iI_add _ _) ?_
                refine lv_istore_n (lv' := [(3, .int (iI (swk a b (i + 1)))), (0, .ref (g 0)), (1, .int (nI a)), (2, .int (nI b)), (4, .int (nI i))]) hx hb dX1_sow_72 rfl hl (by decide) rfl (fun ls hl => ?_)
                refine lv_iinc (v := nI (i + 1)) (lv' := [(4, .int (nI (i + 1))), (3, .int (iI (swk a b (i + 1)))), (0, .ref (g 0)), (1, .int (nI a)), (2, .int (nI b))]) hx hb dX1_sow_73 hl (k := 4) rfl (nI_1 _) (by decide) rfl (fun ls hl => ?_)
                refine lv_goto (tgt := 30) hx hb dX1_sow_76 (by decide) ?_
                exact ih (i + 1) (upd tw i (iI (swv a b i))) _ _ _ (by omega) (by omega) (fun k hk => upd_sw hT k hk) hP hD hS (lv_sub hl [2, 3, 4, 1, 0] rfl)
          refine lv_iconst (v := 0) hx hb dX1_sow_25 (by decide) ?_
          refine lv_istore_n (lv' := [(3, .int 0), (0, .ref (g 0)), (1, .int (nI a)), (2, .int (nI b))]) hx hb dX1_sow_26 rfl hl (by decide) rfl (fun ls hl => ?_)
          refine lv_iconst (v := 0) hx hb dX1_sow_27 (by decide) ?_
          refine lv_istore (lv' := [(4, .int 0), (3, .int 0), (0, .ref (g 0)), (1, .int (nI a)), (2, .int (nI b))]) hx hb dX1_sow_28 hl (by decide) rfl (fun ls hl => ?_)
          exact lp _ 0 fw _ _ _ (Nat.lt_succ_self _) (by omega) (fun k hk => absurd hk (Nat.not_lt_zero _)) hP hD hS (lv_sub hl [2, 3, 4, 1, 0] rfl)
        · refine lv_bipush (v := -2) hx hb dX1_sow_22 (by decide) ?_
          have q := aSow_2 (w := w) (y := y) ha (by omega)
          exact ret _ ((fw, fc, fm, ff, rdy, cnt, bal)) _ _ _ _ dX1_sow_24 (rfl) (⟨q.1.symm, by rw [q.2]; exact ⟨ho, hw, hi⟩⟩) hP hD hS
    · refine lv_iconst (v := -1) hx hb dX1_sow_10 (by decide) ?_
      have q := aSow_1 (w := w) (x := x) (y := y) (by omega)
      exact ret _ ((fw, fc, fm, ff, rdy, cnt, bal)) _ _ _ _ dX1_sow_11 (rfl) (⟨q.1.symm, by rw [q.2]; exact ⟨ho, hw, hi⟩⟩) hP hD hS
abbrev rX1_weight : Room := { frames := 0, cells := 0, slots := 0, locals := 0 }
set_option maxHeartbeats 4000000 in
set_option maxRecDepth 100000 in
theorem metX1_weight {l : Launch} {D : va_G} {d : ClassId} {g : Nat → Nat} {fw fc fm ff : Nat → Int32} {rdy cnt bal : Int32} {hz : Nat} {w : Nat → Int} {x : Int32} (hI : InvM w (fw, fc, fm, ff, rdy, cnt, bal)) : mIO l yX1_weight cX1_weight 2 .int rX1_weight [.ref (g 0), .int x] D d (wM g d fw fc fm ff rdy cnt bal) hz (S := SM) (fun r u => r = aWeight w x ∧ InvM w u) (fun u => wSM g d u) := by
  refine mIO.ofW (by decide) (Nat.le_of_ble_eq_true rfl) ?_
  intro p e s m args below meth mc Q A ls S hP hK hA hS hl hD ret
  have S : CallFix p m mc cX1_weight 2 s args lw_all RX1 := S
  have hx := S.1
  have hb := S.2.1
  have hown := S.2.2.2.1
  have hts := S.2.2.2.2
  have hl : lv_has ls 2 [(0, .ref (g 0)), (1, .int x)] := hl
  obtain ⟨ho, hw, hi⟩ := hI
  have hw : hww fw w := hw
  have hi : rdy = 0 ∨ (rdy = 1 ∧ hli fc (LL w) ∧ cnt = nI (LL w).length ∧ bal = nI (smc w 16807)) := hi
  refine lv_iload_n hx hb dX1_weight_0 rfl (lv_at hl 1 rfl) ?_
  refine z0_lt (X := x.toInt) (tgt := 9) hx hb dX1_weight_1 (by decide) rfl (fun hc1 => ?_) (fun hc1 => ?_)
  · refine lv_bipush (v := -100) hx hb dX1_weight_9 (by decide) ?_
    refine lv_goto (tgt := 20) hx hb dX1_weight_11 (by decide) ?_
    exact ret _ ((fw, fc, fm, ff, rdy, cnt, bal)) _ _ _ _ dX1_weight_20 (rfl) (⟨(if_neg (by omega)).symm, ⟨ho, hw, hi⟩⟩) hP hD hS
  · refine lv_iload_n hx hb dX1_weight_4 rfl (lv_at hl 1 rfl) ?_
    refine lv_iconst (v := 4) hx hb dX1_weight_5 (by decide) ?_
    refine z_le (X := x.toInt) (Y := 4) (tgt := 14) hx hb dX1_weight_6 (by decide) rfl (by decide) (fun hc2 => ?_) (fun hc2 => ?_)
    · obtain ⟨i, hi5, rfl⟩ := of_range (N := 5) (x := x) (by omega)
      refine lv_aload_n hx hb dX1_weight_14 rfl (lv_at hl 0 rfl) ?_
      refine va_get (D := D) (ci := 1) (v := .ref (g 1)) (C := RX1) (T := TX1) (N := 7) hx hb hts in_X1 hown hK hP 0 rfl rfl 0 (by decide) (hts _ q187) (fun _ h9 => h9) rfl dX1_weight_15 ?_
      refine lv_iload_n hx hb dX1_weight_18 rfl (lv_at hl 1 rfl) ?_
      refine xald hx hb hK hP 1 0 rfl rfl (i) (rfl) (by omega) (by decide) dX1_weight_19 ?_
      refine tpi (y := iI (w i)) (hw i hi5) ?_
      exact ret _ ((fw, fc, fm, ff, rdy, cnt, bal)) _ _ _ _ dX1_weight_20 (rfl) (⟨(aWeight_0 hi5).symm, ⟨ho, hw, hi⟩⟩) hP hD hS
    · refine lv_bipush (v := -100) hx hb dX1_weight_9 (by decide) ?_
      refine lv_goto (tgt := 20) hx hb dX1_weight_11 (by decide) ?_
      exact ret _ ((fw, fc, fm, ff, rdy, cnt, bal)) _ _ _ _ dX1_weight_20 (rfl) (⟨(if_neg (by omega)).symm, ⟨ho, hw, hi⟩⟩) hP hD hS
abbrev rX1_isBalance : Room := { frames := 2, cells := 0, slots := 0, locals := 45 }
set_option maxHeartbeats 4000000 in
set_option maxRecDepth 100000 in
theorem metX1_isBalance {l : Launch} {D : va_G} {d : ClassId} {g : Nat → Nat} {fw fc fm ff : Nat → Int32} {rdy cnt bal : Int32} {hz : Nat} {w : Nat → Int} {x : Int32} (hI : InvM w (fw, fc, fm, ff, rdy, cnt, bal)) : mIO l yX1_isBalance cX1_isBalance 2 .int rX1_isBalance [.ref (g 0), .int x] D d (wM g d fw fc fm ff rdy cnt bal) hz (S := SM) (fun r u => r = aIsBal w x ∧ InvM w u) (fun u => wSM g d u) := by
  refine mIO.ofW (by decide) (Nat.le_of_ble_eq_true rfl) ?_
  intro p e s m args below meth mc Q A ls S hP hK hA hS hl hD ret
  have S : CallFix p m mc cX1_isBalance 2 s args lw_all RX1 := S
  have hx := S.1
  have hb := S.2.1
  have hown := S.2.2.2.1
  have hts := S.2.2.2.2
  have hl : lv_has ls 2 [(0, .ref (g 0)), (1, .int x)] := hl
  obtain ⟨ho, hw, hi⟩ := hI
  have hw : hww fw w := hw
  have hi : rdy = 0 ∨ (rdy = 1 ∧ hli fc (LL w) ∧ cnt = nI (LL w).length ∧ bal = nI (smc w 16807)) := hi
  refine lv_aload_n hx hb dX1_isBalance_0 rfl (lv_at hl 0 rfl) ?_
  refine lv_iload_n hx hb dX1_isBalance_1 rfl (lv_at hl 1 rfl) ?_
  refine cRO (As := [.int x]) (rest := []) S (metX1_badCode (x := x)) (cwV 1 hts (lw_V q225 q227 qs13 q26 q228) rfl rfl rfl (by decide +kernel) ⟨Nat.le_of_ble_eq_true rfl, Nat.le_of_ble_eq_true rfl⟩) hK hP hS hA rfl rfl rfl hl.1 rfl (Nat.le_of_ble_eq_true rfl) dX1_isBalance_2 ⟨Nat.zero_le _, Nat.zero_le _⟩ (fun r9 H locs hr hP hS => ?_)
  obtain rfl : r9 = bI (decide (¬ (0 ≤ x.toInt ∧ x.toInt < 16807))) := hr
  refine b_eq (b := decide (¬ (0 ≤ x.toInt ∧ x.toInt < 16807))) (tgt := 10) hx hb dX1_isBalance_5 (by decide) (fun hc => ?_) (fun hc => ?_)
  · obtain ⟨c, hc0, rfl⟩ := of_range (N := 16807) (Decidable.not_not.mp (of_decide_eq_false hc))
    refine lv_aload_n hx hb dX1_isBalance_10 rfl (lv_at hl 0 rfl) ?_
    refine lv_iload_n hx hb dX1_isBalance_11 rfl (lv_at hl 1 rfl) ?_
    refine cRO (As := [.int (nI c)]) (rest := []) S (metX1_balanced (c := c) (w := w) hw ho hc0) (cwV 1 hts (lw_V q229 q231 qs14 q26 q232) rfl rfl rfl (by decide +kernel) ⟨Nat.le_of_ble_eq_true rfl, Nat.le_of_ble_eq_true rfl⟩) hK hP hS hA rfl rfl rfl hl.1 rfl (Nat.le_of_ble_eq_true rfl) dX1_isBalance_12 ⟨Nat.zero_le _, Nat.zero_le _⟩ (fun r9 H locs hr hP hS => ?_)
    obtain rfl : r9 = bI (decide (sm w c = 0)) := hr
    refine b_eq (b := decide (sm w c = 0)) (tgt := 22) hx hb dX1_isBalance_15 (by decide) (fun hs => ?_) (fun hs => ?_)
    · refine lv_iconst (v := 0) hx hb dX1_isBalance_22 (by decide) ?_
      exact ret _ ((fw, fc, fm, ff, rdy, cnt, bal)) _ _ _ _ dX1_isBalance_23 (rfl) (⟨by rw [aIsBal_0 hc0, hs]; rfl, ⟨ho, hw, hi⟩⟩) hP hD hS
    · refine lv_iconst (v := 1) hx hb dX1_isBalance_18 (by decide) ?_
      refine lv_goto (tgt := 23) hx hb dX1_isBalance_19 (by decide) ?_
      exact ret _ ((fw, fc, fm, ff, rdy, cnt, bal)) _ _ _ _ dX1_isBalance_23 (rfl) (⟨by rw [aIsBal_0 hc0, hs]; rfl, ⟨ho, hw, hi⟩⟩) hP hD hS
  · refine lv_iconst (v := -1) hx hb dX1_isBalance_8 (by decide) ?_
    exact ret _ ((fw, fc, fm, ff, rdy, cnt, bal)) _ _ _ _ dX1_isBalance_9 (rfl) (⟨(if_neg (of_decide_eq_true hc)).symm, ⟨ho, hw, hi⟩⟩) hP hD hS
abbrev rX1_isLeast : Room := { frames := 4, cells := 0, slots := 0, locals := 89 }
set_option maxHeartbeats 4000000 in
set_option maxRecDepth 100000 in
theorem metX1_isLeast {l : Launch} {D : va_G} {d : ClassId} {g : Nat → Nat} {fw fc fm ff : Nat → Int32} {rdy cnt bal : Int32} {hz : Nat} {w : Nat → Int} {x : Int32} (hI : InvM w (fw, fc, fm, ff, rdy, cnt, bal)) : mIO l yX1_isLeast cX1_isLeast 3 .int rX1_isLeast [.ref (g 0), .int x] D d (wM g d fw fc fm ff rdy cnt bal) hz (S := SM) (fun r u => r = aIsLeast w x ∧ InvM w u) (fun u => wSM g d u) := by
  refine mIO.ofW (by decide) (Nat.le_of_ble_eq_true rfl) ?_
  intro p e s m args below meth mc Q A ls S hP hK hA hS hl hD ret
  have S : CallFix p m mc cX1_isLeast 3 s args lw_all RX1 := S
  have hx := S.1
  have hb := S.2.1
  have hown := S.2.2.2.1
  have hts := S.2.2.2.2
  have hl : lv_has ls 3 [(0, .ref (g 0)), (1, .int x)] := hl
  obtain ⟨ho, hw, hi⟩ := hI
  have hw : hww fw w := hw
  have hi : rdy = 0 ∨ (rdy = 1 ∧ hli fc (LL w) ∧ cnt = nI (LL w).length ∧ bal = nI (smc w 16807)) := hi
  refine lv_aload_n hx hb dX1_isLeast_0 rfl (lv_at hl 0 rfl) ?_
  refine lv_iload_n hx hb dX1_isLeast_1 rfl (lv_at hl 1 rfl) ?_
  refine cRO (As := [.int x]) (rest := []) S (metX1_badCode (x := x)) (cwV 1 hts (lw_V q225 q227 qs13 q26 q228) rfl rfl rfl (by decide +kernel) ⟨Nat.le_of_ble_eq_true rfl, Nat.le_of_ble_eq_true rfl⟩) hK hP hS hA rfl rfl rfl hl.1 rfl (Nat.le_of_ble_eq_true rfl) dX1_isLeast_2 ⟨Nat.zero_le _, Nat.zero_le _⟩ (fun r9 H locs hr hP hS => ?_)
  obtain rfl : r9 = bI (decide (¬ (0 ≤ x.toInt ∧ x.toInt < 16807))) := hr
  refine b_eq (b := decide (¬ (0 ≤ x.toInt ∧ x.toInt < 16807))) (tgt := 10) hx hb dX1_isLeast_5 (by decide) (fun hc => ?_) (fun hc => ?_)
  · obtain ⟨c, hc0, rfl⟩ := of_range (N := 16807) (Decidable.not_not.mp (of_decide_eq_false hc))
    refine lv_aload_n hx hb dX1_isLeast_10 rfl (lv_at hl 0 rfl) ?_
    refine cVO (As := []) (rest := []) S (metX1_work (w := w) hw ho hi) (cwV 0 hts (lw_V q241 q243 qs16 q26 q244) rfl rfl rfl (by decide +kernel) ⟨Nat.le_of_ble_eq_true rfl, Nat.le_of_ble_eq_true rfl⟩) hK hP hD hS hA rfl rfl rfl hl.1 rfl (Nat.le_of_ble_eq_true rfl) dX1_isLeast_11 ⟨Nat.zero_le _, Nat.zero_le _⟩ (fun u H locs hu hP hD hS => ?_)
    obtain ⟨tc, rfl⟩ : ∃ z, z = u := ⟨_, rfl⟩
    have hL : hli tc (LL w) := hu
    have hlen := LL_len w
    have hP : va_P D vwCl (wM g d fw tc fm ff 1 (nI (LL w).length) (nI (smc w 16807))) H := hP
    have hD : va_D A (wM g d fw tc fm ff 1 (nI (LL w).length) (nI (smc w 16807))) := hD
    refine lv_iconst (v := 0) hx hb dX1_isLeast_14 (by decide) ?_
    refine lv_istore_n (lv' := [(2, .int 0), (0, .ref (g 0)), (1, .int (nI c))]) hx hb dX1_isLeast_15 rfl hl (by decide) rfl (fun ls hl => ?_)
    have lp : ∀ (k : Nat) (j : Nat) (H : Heap) (locs : List Loc) (ls : Array Slot), (LL w).length - j < k → j ≤ (LL w).length → c ∉ (LL w).take j → va_P D vwCl (wM g d fw tc fm ff 1 (nI (LL w).length) (nI (smc w 16807))) H → va_D A (wM g d fw tc fm ff 1 (nI (LL w).length) (nI (smc w 16807))) → va_S A s.heap H locs → lv_has ls 3 [(0, .ref (g 0)), (1, .int (nI c)), (2, .int (nI j))] → W p l e rX1_isLeast s m args below meth mc H locs 0 0 Q (F0 m 16 ls []) := by
      intro k
      induction k with
      | zero =>
        intro j H locs ls hk
        exact absurd hk (Nat.not_lt_zero _)
      | succ k ih =>
        intro j H locs ls hk hj ht hP hD hS hl
        refine lv_iload_n hx hb dX1_isLeast_16 rfl (lv_at hl 2 rfl) ?_
        refine lv_aload_n hx hb dX1_isLeast_17 rfl (lv_at hl 0 rfl) ?_
        refine va_get (D := D) (ci := 1) (v := .int (nI (LL w).length)) (C := RX1) (T := TX1) (N := 7) hx hb hts in_X1 hown hK hP 0 rfl rfl 2 (by decide) (hts _ q189) (fun _ h9 => h9) rfl dX1_isLeast_18 ?_
        refine z_ge (X := ((j : Nat) : Int)) (Y := (((LL w).length : Nat) : Int)) (tgt := 49) hx hb dX1_isLeast_21 (by decide) (nI_toInt (by omega)) (nI_toInt (by omega)) (fun hc6 => ?_) (fun hc6 => ?_)
        · obtain rfl : j = (LL w).length := (by omega)
          rw [List.take_length] at ht
          refine lv_iconst (v := 0) hx hb dX1_isLeast_49 (by decide) ?_
          exact ret _ ((fw, tc, fm, ff, 1, nI (LL w).length, nI (smc w 16807))) _ _ _ _ dX1_isLeast_50 (rfl) (⟨by rw [aIsLeast_0 hc0]; exact bI_f ht, ⟨ho, hw, Or.inr ⟨rfl, hL, rfl, rfl⟩⟩⟩) hP hD hS
        · have hj2 : j < (LL w).length := by omega
          have hgm := getD_mem hj2
          have hg := LL_lt w _ hgm
          refine lv_iload_n hx hb dX1_isLeast_24 rfl (lv_at hl 2 rfl) ?_
          refine lv_sipush (v := 2000) hx hb dX1_isLeast_25 (by decide) ?_
          refine z_ge (X := ((j : Nat) : Int)) (Y := 2000) (tgt := 49) hx hb dX1_isLeast_28 (by decide) (nI_toInt (by omega)) (by decide) (fun hc7 => ?_) (fun hc7 => ?_)
          · omega
          · refine lv_aload_n hx hb dX1_isLeast_31 rfl (lv_at hl 0 rfl) ?_
            refine va_get (D := D) (ci := 1) (v := .ref (g 2)) (C := RX1) (T := TX1) (N := 7) hx hb hts in_X1 hown hK hP 0 rfl rfl 4 (by decide) (hts _ q191) (fun _ h9 => h9) rfl dX1_isLeast_32 ?_
            refine lv_iload_n hx hb dX1_isLeast_35 rfl (lv_at hl 2 rfl) ?_
            refine xald hx hb hK hP 2 0 rfl rfl (j) (rfl) (by omega) (by decide) dX1_isLeast_36 ?_
            refine tpi (y := nI ((LL w).getD j 0)) (hL j hj2) ?_
            refine lv_iload_n hx hb dX1_isLeast_37 rfl (lv_at hl 1 rfl) ?_
            refine z_ne (X := (((LL w).getD j 0 : Nat) : Int)) (Y := ((c : Nat) : Int)) (tgt := 43) hx hb dX1_isLeast_38 (by decide) (nI_toInt (by omega)) (nI_toInt (by omega)) (fun hc8 => ?_) (fun hc8 => ?_)
            · refine lv_iinc (v := nI (j + 1)) (lv' := [(2, .int (nI (j + 1))), (0, .ref (g 0)), (1, .int (nI c))]) hx hb dX1_isLeast_43 hl (k := 2) rfl (nI_1 _) (by decide) rfl (fun ls hl => ?_)
              refine lv_goto (tgt := 16) hx hb dX1_isLeast_46 (by decide) ?_
              exact ih (j + 1) _ _ _ (by omega) (by omega) (not_take hj2 ht (by omega)) hP hD hS (lv_sub hl [1, 2, 0] rfl)
            · refine lv_iconst (v := 1) hx hb dX1_isLeast_41 (by decide) ?_
              exact ret _ ((fw, tc, fm, ff, 1, nI (LL w).length, nI (smc w 16807))) _ _ _ _ dX1_isLeast_42 (rfl) (⟨by rw [aIsLeast_0 hc0]; exact bI_t (by obtain rfl : (LL w).getD j 0 = c := (by omega); exact hgm), ⟨ho, hw, Or.inr ⟨rfl, hL, rfl, rfl⟩⟩⟩) hP hD hS
    exact lp _ 0 _ _ _ (Nat.lt_succ_self _) (by omega) (by simp) hP hD hS (lv_sub hl [1, 2, 0] rfl)
  · refine lv_iconst (v := -1) hx hb dX1_isLeast_8 (by decide) ?_
    exact ret _ ((fw, fc, fm, ff, rdy, cnt, bal)) _ _ _ _ dX1_isLeast_9 (rfl) (⟨(if_neg (of_decide_eq_true hc)).symm, ⟨ho, hw, hi⟩⟩) hP hD hS
abbrev rX1_least : Room := { frames := 4, cells := 0, slots := 0, locals := 89 }
set_option maxHeartbeats 4000000 in
set_option maxRecDepth 100000 in
theorem metX1_least {l : Launch} {D : va_G} {d : ClassId} {g : Nat → Nat} {fw fc fm ff : Nat → Int32} {rdy cnt bal : Int32} {hz : Nat} {w : Nat → Int} (hI : InvM w (fw, fc, fm, ff, rdy, cnt, bal)) : mIO l yX1_least cX1_least 1 .int rX1_least [.ref (g 0)] D d (wM g d fw fc fm ff rdy cnt bal) hz (S := SM) (fun r u => r = aLeast w ∧ InvM w u) (fun u => wSM g d u) := by
  refine mIO.ofW (by decide) (Nat.le_of_ble_eq_true rfl) ?_
  intro p e s m args below meth mc Q A ls S hP hK hA hS hl hD ret
  have S : CallFix p m mc cX1_least 1 s args lw_all RX1 := S
  have hx := S.1
  have hb := S.2.1
  have hown := S.2.2.2.1
  have hts := S.2.2.2.2
  have hl : lv_has ls 1 [(0, .ref (g 0))] := hl
  obtain ⟨ho, hw, hi⟩ := hI
  have hw : hww fw w := hw
  have hi : rdy = 0 ∨ (rdy = 1 ∧ hli fc (LL w) ∧ cnt = nI (LL w).length ∧ bal = nI (smc w 16807)) := hi
  refine lv_aload_n hx hb dX1_least_0 rfl (lv_at hl 0 rfl) ?_
  refine cVO (As := []) (rest := []) S (metX1_work (w := w) hw ho hi) (cwV 0 hts (lw_V q241 q243 qs16 q26 q244) rfl rfl rfl (by decide +kernel) ⟨Nat.le_of_ble_eq_true rfl, Nat.le_of_ble_eq_true rfl⟩) hK hP hD hS hA rfl rfl rfl hl.1 rfl (Nat.le_of_ble_eq_true rfl) dX1_least_1 ⟨Nat.zero_le _, Nat.zero_le _⟩ (fun u H locs hu hP hD hS => ?_)
  obtain ⟨tc, rfl⟩ : ∃ z, z = u := ⟨_, rfl⟩
  have hL : hli tc (LL w) := hu
  have hlen := LL_len w
  have hP : va_P D vwCl (wM g d fw tc fm ff 1 (nI (LL w).length) (nI (smc w 16807))) H := hP
  have hD : va_D A (wM g d fw tc fm ff 1 (nI (LL w).length) (nI (smc w 16807))) := hD
  refine lv_aload_n hx hb dX1_least_4 rfl (lv_at hl 0 rfl) ?_
  refine va_get (D := D) (ci := 1) (v := .int (nI (LL w).length)) (C := RX1) (T := TX1) (N := 7) hx hb hts in_X1 hown hK hP 0 rfl rfl 2 (by decide) (hts _ q189) (fun _ h9 => h9) rfl dX1_least_5 ?_
  exact ret _ ((fw, tc, fm, ff, 1, nI (LL w).length, nI (smc w 16807))) _ _ _ _ dX1_least_8 (rfl) (⟨rfl, ⟨ho, hw, Or.inr ⟨rfl, hL, rfl, rfl⟩⟩⟩) hP hD hS
abbrev rX1_code : Room := { frames := 4, cells := 0, slots := 0, locals := 89 }
set_option maxHeartbeats 4000000 in
set_option maxRecDepth 100000 in
theorem metX1_code {l : Launch} {D : va_G} {d : ClassId} {g : Nat → Nat} {fw fc fm ff : Nat → Int32} {rdy cnt bal : Int32} {hz : Nat} {w : Nat → Int} {x : Int32} (hI : InvM w (fw, fc, fm, ff, rdy, cnt, bal)) : mIO l yX1_code cX1_code 2 .int rX1_code [.ref (g 0), .int x] D d (wM g d fw fc fm ff rdy cnt bal) hz (S := SM) (fun r u => r = aCode w x ∧ InvM w u) (fun u => wSM g d u) := by
  refine mIO.ofW (by decide) (Nat.le_of_ble_eq_true rfl) ?_
  intro p e s m args below meth mc Q A ls S hP hK hA hS hl hD ret
  have S : CallFix p m mc cX1_code 2 s args lw_all RX1 := S
  have hx := S.1
  have hb := S.2.1
  have hown := S.2.2.2.1
  have hts := S.2.2.2.2
  have hl : lv_has ls 2 [(0, .ref (g 0)), (1, .int x)] := hl
  obtain ⟨ho, hw, hi⟩ := hI
  have hw : hww fw w := hw
  have hi : rdy = 0 ∨ (rdy = 1 ∧ hli fc (LL w) ∧ cnt = nI (LL w).length ∧ bal = nI (smc w 16807)) := hi
  refine lv_aload_n hx hb dX1_code_0 rfl (lv_at hl 0 rfl) ?_
  refine cVO (As := []) (rest := []) S (metX1_work (w := w) hw ho hi) (cwV 0 hts (lw_V q241 q243 qs16 q26 q244) rfl rfl rfl (by decide +kernel) ⟨Nat.le_of_ble_eq_true rfl, Nat.le_of_ble_eq_true rfl⟩) hK hP hD hS hA rfl rfl rfl hl.1 rfl (Nat.le_of_ble_eq_true rfl) dX1_code_1 ⟨Nat.zero_le _, Nat.zero_le _⟩ (fun u H locs hu hP hD hS => ?_)
  obtain ⟨tc, rfl⟩ : ∃ z, z = u := ⟨_, rfl⟩
  have hL : hli tc (LL w) := hu
  have hlen := LL_len w
  have hP : va_P D vwCl (wM g d fw tc fm ff 1 (nI (LL w).length) (nI (smc w 16807))) H := hP
  have hD : va_D A (wM g d fw tc fm ff 1 (nI (LL w).length) (nI (smc w 16807))) := hD
  refine lv_iload_n hx hb dX1_code_4 rfl (lv_at hl 1 rfl) ?_
  refine z0_lt (X := x.toInt) (tgt := 23) hx hb dX1_code_5 (by decide) rfl (fun hc1 => ?_) (fun hc1 => ?_)
  · refine lv_iconst (v := -1) hx hb dX1_code_23 (by decide) ?_
    refine lv_goto (tgt := 33) hx hb dX1_code_24 (by decide) ?_
    exact ret _ ((fw, tc, fm, ff, 1, nI (LL w).length, nI (smc w 16807))) _ _ _ _ dX1_code_33 (rfl) (⟨(if_neg (by omega)).symm, ⟨ho, hw, Or.inr ⟨rfl, hL, rfl, rfl⟩⟩⟩) hP hD hS
  · refine lv_iload_n hx hb dX1_code_8 rfl (lv_at hl 1 rfl) ?_
    refine lv_aload_n hx hb dX1_code_9 rfl (lv_at hl 0 rfl) ?_
    refine va_get (D := D) (ci := 1) (v := .int (nI (LL w).length)) (C := RX1) (T := TX1) (N := 7) hx hb hts in_X1 hown hK hP 0 rfl rfl 2 (by decide) (hts _ q189) (fun _ h9 => h9) rfl dX1_code_10 ?_
    refine z_ge (X := x.toInt) (Y := (((LL w).length : Nat) : Int)) (tgt := 23) hx hb dX1_code_13 (by decide) rfl (nI_toInt (by omega)) (fun hc2 => ?_) (fun hc2 => ?_)
    · refine lv_iconst (v := -1) hx hb dX1_code_23 (by decide) ?_
      refine lv_goto (tgt := 33) hx hb dX1_code_24 (by decide) ?_
      exact ret _ ((fw, tc, fm, ff, 1, nI (LL w).length, nI (smc w 16807))) _ _ _ _ dX1_code_33 (rfl) (⟨(if_neg (by omega)).symm, ⟨ho, hw, Or.inr ⟨rfl, hL, rfl, rfl⟩⟩⟩) hP hD hS
    · refine lv_iload_n hx hb dX1_code_16 rfl (lv_at hl 1 rfl) ?_
      refine lv_sipush (v := 1999) hx hb dX1_code_17 (by decide) ?_
      refine z_le (X := x.toInt) (Y := 1999) (tgt := 27) hx hb dX1_code_20 (by decide) rfl (by decide) (fun hc3 => ?_) (fun hc3 => ?_)
      · obtain ⟨c, hc0, rfl⟩ := of_range (N := (LL w).length) (x := x) (by omega)
        refine lv_aload_n hx hb dX1_code_27 rfl (lv_at hl 0 rfl) ?_
        refine va_get (D := D) (ci := 1) (v := .ref (g 2)) (C := RX1) (T := TX1) (N := 7) hx hb hts in_X1 hown hK hP 0 rfl rfl 4 (by decide) (hts _ q191) (fun _ h9 => h9) rfl dX1_code_28 ?_
        refine lv_iload_n hx hb dX1_code_31 rfl (lv_at hl 1 rfl) ?_
        refine xald hx hb hK hP 2 0 rfl rfl (c) (rfl) (by omega) (by decide) dX1_code_32 ?_
        refine tpi (y := nI ((LL w).getD c 0)) (hL c hc0) ?_
        exact ret _ ((fw, tc, fm, ff, 1, nI (LL w).length, nI (smc w 16807))) _ _ _ _ dX1_code_33 (rfl) (⟨(aCode_0 hc0).symm, ⟨ho, hw, Or.inr ⟨rfl, hL, rfl, rfl⟩⟩⟩) hP hD hS
      · omega
abbrev rX1_using : Room := { frames := 4, cells := 0, slots := 0, locals := 89 }
set_option maxHeartbeats 4000000 in
set_option maxRecDepth 100000 in
theorem metX1_using {l : Launch} {D : va_G} {d : ClassId} {g : Nat → Nat} {fw fc fm ff : Nat → Int32} {rdy cnt bal : Int32} {hz : Nat} {w : Nat → Int} {x : Int32} (hI : InvM w (fw, fc, fm, ff, rdy, cnt, bal)) : mIO l yX1_using cX1_using 4 .int rX1_using [.ref (g 0), .int x] D d (wM g d fw fc fm ff rdy cnt bal) hz (S := SM) (fun r u => r = aUsing w x ∧ InvM w u) (fun u => wSM g d u) := by
  refine mIO.ofW (by decide) (Nat.le_of_ble_eq_true rfl) ?_
  intro p e s m args below meth mc Q A ls S hP hK hA hS hl hD ret
  have S : CallFix p m mc cX1_using 4 s args lw_all RX1 := S
  have hx := S.1
  have hb := S.2.1
  have hown := S.2.2.2.1
  have hts := S.2.2.2.2
  have hl : lv_has ls 4 [(0, .ref (g 0)), (1, .int x)] := hl
  obtain ⟨ho, hw, hi⟩ := hI
  have hw : hww fw w := hw
  have hi : rdy = 0 ∨ (rdy = 1 ∧ hli fc (LL w) ∧ cnt = nI (LL w).length ∧ bal = nI (smc w 16807)) := hi
  refine lv_iload_n hx hb dX1_using_0 rfl (lv_at hl 1 rfl) ?_
  refine z0_lt (X := x.toInt) (tgt := 9) hx hb dX1_using_1 (by decide) rfl (fun hc1 => ?_) (fun hc1 => ?_)
  · refine lv_iconst (v := -1) hx hb dX1_using_9 (by decide) ?_
    exact ret _ ((fw, fc, fm, ff, rdy, cnt, bal)) _ _ _ _ dX1_using_10 (rfl) (⟨(if_neg (by omega)).symm, ⟨ho, hw, hi⟩⟩) hP hD hS
  · refine lv_iload_n hx hb dX1_using_4 rfl (lv_at hl 1 rfl) ?_
    refine lv_iconst (v := 4) hx hb dX1_using_5 (by decide) ?_
    refine z_le (X := x.toInt) (Y := 4) (tgt := 11) hx hb dX1_using_6 (by decide) rfl (by decide) (fun hc2 => ?_) (fun hc2 => ?_)
    · obtain ⟨i, hi5, rfl⟩ := of_range (N := 5) (x := x) (by omega)
      refine lv_aload_n hx hb dX1_using_11 rfl (lv_at hl 0 rfl) ?_
      refine cVO (As := []) (rest := []) S (metX1_work (w := w) hw ho hi) (cwV 0 hts (lw_V q241 q243 qs16 q26 q244) rfl rfl rfl (by decide +kernel) ⟨Nat.le_of_ble_eq_true rfl, Nat.le_of_ble_eq_true rfl⟩) hK hP hD hS hA rfl rfl rfl hl.1 rfl (Nat.le_of_ble_eq_true rfl) dX1_using_12 ⟨Nat.zero_le _, Nat.zero_le _⟩ (fun u H locs hu hP hD hS => ?_)
      obtain ⟨tc, rfl⟩ : ∃ z, z = u := ⟨_, rfl⟩
      have hL : hli tc (LL w) := hu
      have hlen := LL_len w
      have hP : va_P D vwCl (wM g d fw tc fm ff 1 (nI (LL w).length) (nI (smc w 16807))) H := hP
      have hD : va_D A (wM g d fw tc fm ff 1 (nI (LL w).length) (nI (smc w 16807))) := hD
      refine lv_iconst (v := 0) hx hb dX1_using_15 (by decide) ?_
      refine lv_istore_n (lv' := [(2, .int 0), (0, .ref (g 0)), (1, .int (nI i))]) hx hb dX1_using_16 rfl hl (by decide) rfl (fun ls hl => ?_)
      refine lv_iconst (v := 0) hx hb dX1_using_17 (by decide) ?_
      refine lv_istore_n (lv' := [(3, .int 0), (2, .int 0), (0, .ref (g 0)), (1, .int (nI i))]) hx hb dX1_using_18 rfl hl (by decide) rfl (fun ls hl => ?_)
      have lp : ∀ (k : Nat) (j : Nat) (H : Heap) (locs : List Loc) (ls : Array Slot), (LL w).length - j < k → j ≤ (LL w).length → va_P D vwCl (wM g d fw tc fm ff 1 (nI (LL w).length) (nI (smc w 16807))) H → va_D A (wM g d fw tc fm ff 1 (nI (LL w).length) (nI (smc w 16807))) → va_S A s.heap H locs → lv_has ls 4 [(0, .ref (g 0)), (1, .int (nI i)), (2, .int (nI (usk (LL w) i j))), (3, .int (nI j))] → W p l e rX1_using s m args below meth mc H locs 0 0 Q (F0 m 19 ls []) := by
        intro k
        induction k with
        | zero =>
          intro j H locs ls hk
          exact absurd hk (Nat.not_lt_zero _)
        | succ k ih =>
          intro j H locs ls hk hj hP hD hS hl
          refine lv_iload_n hx hb dX1_using_19 rfl (lv_at hl 3 rfl) ?_
          refine lv_aload_n hx hb dX1_using_20 rfl (lv_at hl 0 rfl) ?_
          refine va_get (D := D) (ci := 1) (v := .int (nI (LL w).length)) (C := RX1) (T := TX1) (N := 7) hx hb hts in_X1 hown hK hP 0 rfl rfl 2 (by decide) (hts _ q189) (fun _ h9 => h9) rfl dX1_using_21 ?_
          refine z_ge (X := ((j : Nat) : Int)) (Y := (((LL w).length : Nat) : Int)) (tgt := 57) hx hb dX1_using_24 (by decide) (nI_toInt (by omega)) (nI_toInt (by omega)) (fun hc5 => ?_) (fun hc5 => ?_)
          · obtain rfl : j = (LL w).length := (by omega)
            refine lv_iload_n hx hb dX1_using_57 rfl (lv_at hl 2 rfl) ?_
            exact ret _ ((fw, tc, fm, ff, 1, nI (LL w).length, nI (smc w 16807))) _ _ _ _ dX1_using_58 (rfl) (⟨(aUsing_0 hi5).symm, ⟨ho, hw, Or.inr ⟨rfl, hL, rfl, rfl⟩⟩⟩) hP hD hS
          · have hj2 : j < (LL w).length := by omega
            have hg := LL_lt w _ (getD_mem hj2)
            refine lv_iload_n hx hb dX1_using_27 rfl (lv_at hl 3 rfl) ?_
            refine lv_sipush (v := 2000) hx hb dX1_using_28 (by decide) ?_
            refine z_ge (X := ((j : Nat) : Int)) (Y := 2000) (tgt := 57) hx hb dX1_using_31 (by decide) (nI_toInt (by omega)) (by decide) (fun hc6 => ?_) (fun hc6 => ?_)
            · omega
            · refine lv_aload_n hx hb dX1_using_34 rfl (lv_at hl 0 rfl) ?_
              refine lv_aload_n hx hb dX1_using_35 rfl (lv_at hl 0 rfl) ?_
              refine va_get (D := D) (ci := 1) (v := .ref (g 2)) (C := RX1) (T := TX1) (N := 7) hx hb hts in_X1 hown hK hP 0 rfl rfl 4 (by decide) (hts _ q191) (fun _ h9 => h9) rfl dX1_using_36 ?_
              refine lv_iload_n hx hb dX1_using_39 rfl (lv_at hl 3 rfl) ?_
              refine xald hx hb hK hP 2 0 rfl rfl (j) (rfl) (by omega) (by decide) dX1_using_40 ?_
              refine tpi (y := nI ((LL w).getD j 0)) (hL j hj2) ?_
              refine lv_iload_n hx hb dX1_using_41 rfl (lv_at hl 1 rfl) ?_
              refine cRO (As := [.int (nI ((LL w).getD j 0)), .int (nI i)]) (rest := []) S (metX1_digit (c := (LL w).getD j 0) (i := i) hg hi5) (cwV 2 hts (lw_V q233 q235 qs15 q26 q236) rfl rfl rfl (by decide +kernel) ⟨Nat.le_of_ble_eq_true rfl, Nat.le_of_ble_eq_true rfl⟩) hK hP hS hA rfl rfl rfl hl.1 rfl (Nat.le_of_ble_eq_true rfl) dX1_using_42 ⟨Nat.zero_le _, Nat.zero_le _⟩ (fun r9 H locs hr hP hS => ?_)
              obtain rfl : r9 = nI (dg ((LL w).getD j 0) i) := hr
              have hdl := dg_lt ((LL w).getD j 0) i
              refine z0_le (X := ((dg ((LL w).getD j 0) i : Nat) : Int)) (tgt := 51) hx hb dX1_using_45 (by decide) (nI_toInt (by omega)) (fun hd => ?_) (fun hd => ?_)
              · refine lv_iinc (v := nI (j + 1)) (lv' := [(3, .int (nI (j + 1))), (0, .ref (g 0)), (1, .int (nI i)), (2, .int (nI (usk (LL w) i j)))]) hx hb dX1_using_51 hl (k := 3) rfl (nI_1 _) (by decide) rfl (fun ls hl => ?_)
                refine lv_goto (tgt := 19) hx hb dX1_using_54 (by decide) ?_
                exact ih (j + 1) _ _ _ (by omega) (by omega) hP hD hS (by rw [← usk_0 (L := LL w) (i := i) (k := j) (by omega), show (0 : Int32) = nI 0 from rfl, nI_add]; exact lv_sub hl [1, 2, 3, 0] rfl)
              · refine lv_iinc (v := nI (usk (LL w) i (j + 1))) (lv' := [(2, .int (nI (usk (LL w) i (j + 1)))), (0, .ref (g 0)), (1, .int (nI i)), (3, .int (nI j))]) hx hb dX1_using_48 hl (k := 2) rfl (usk_1 (by omega)) (by decide) rfl (fun ls hl => ?_)
                refine lv_iinc (v := nI (j + 1)) (lv' := [(3, .int (nI (j + 1))), (2, .int (nI (usk (LL w) i (j + 1)))), (0, .ref (g 0)), (1, .int (nI i))]) hx hb dX1_using_51 hl (k := 3) rfl (nI_1 _) (by decide) rfl (fun ls hl => ?_)
                refine lv_goto (tgt := 19) hx hb dX1_using_54 (by decide) ?_
                exact ih (j + 1) _ _ _ (by omega) (by omega) hP hD hS (lv_sub hl [2, 3, 1, 0] rfl)
      exact lp _ 0 _ _ _ (Nat.lt_succ_self _) (by omega) hP hD hS (lv_sub hl [2, 3, 1, 0] rfl)
    · refine lv_iconst (v := -1) hx hb dX1_using_9 (by decide) ?_
      exact ret _ ((fw, fc, fm, ff, rdy, cnt, bal)) _ _ _ _ dX1_using_10 (rfl) (⟨(if_neg (by omega)).symm, ⟨ho, hw, hi⟩⟩) hP hD hS
abbrev rX1_longest : Room := { frames := 4, cells := 0, slots := 0, locals := 89 }
set_option maxHeartbeats 4000000 in
set_option maxRecDepth 100000 in
theorem metX1_longest {l : Launch} {D : va_G} {d : ClassId} {g : Nat → Nat} {fw fc fm ff : Nat → Int32} {rdy cnt bal : Int32} {hz : Nat} {w : Nat → Int} (hI : InvM w (fw, fc, fm, ff, rdy, cnt, bal)) : mIO l yX1_longest cX1_longest 5 .int rX1_longest [.ref (g 0)] D d (wM g d fw fc fm ff rdy cnt bal) hz (S := SM) (fun r u => r = aLongest w ∧ InvM w u) (fun u => wSM g d u) := by
  refine mIO.ofW (by decide) (Nat.le_of_ble_eq_true rfl) ?_
  intro p e s m args below meth mc Q A ls S hP hK hA hS hl hD ret
  have S : CallFix p m mc cX1_longest 5 s args lw_all RX1 := S
  have hx := S.1
  have hb := S.2.1
  have hown := S.2.2.2.1
  have hts := S.2.2.2.2
  have hl : lv_has ls 5 [(0, .ref (g 0))] := hl
  obtain ⟨ho, hw, hi⟩ := hI
  have hw : hww fw w := hw
  have hi : rdy = 0 ∨ (rdy = 1 ∧ hli fc (LL w) ∧ cnt = nI (LL w).length ∧ bal = nI (smc w 16807)) := hi
  refine lv_aload_n hx hb dX1_longest_0 rfl (lv_at hl 0 rfl) ?_
  refine cVO (As := []) (rest := []) S (metX1_work (w := w) hw ho hi) (cwV 0 hts (lw_V q241 q243 qs16 q26 q244) rfl rfl rfl (by decide +kernel) ⟨Nat.le_of_ble_eq_true rfl, Nat.le_of_ble_eq_true rfl⟩) hK hP hD hS hA rfl rfl rfl hl.1 rfl (Nat.le_of_ble_eq_true rfl) dX1_longest_1 ⟨Nat.zero_le _, Nat.zero_le _⟩ (fun u H locs hu hP hD hS => ?_)
  obtain ⟨tc, rfl⟩ : ∃ z, z = u := ⟨_, rfl⟩
  have hL : hli tc (LL w) := hu
  have hlen := LL_len w
  have hP : va_P D vwCl (wM g d fw tc fm ff 1 (nI (LL w).length) (nI (smc w 16807))) H := hP
  have hD : va_D A (wM g d fw tc fm ff 1 (nI (LL w).length) (nI (smc w 16807))) := hD
  refine lv_iconst (v := 0) hx hb dX1_longest_4 (by decide) ?_
  refine lv_istore_n (lv' := [(1, .int 0), (0, .ref (g 0))]) hx hb dX1_longest_5 rfl hl (by decide) rfl (fun ls hl => ?_)
  refine lv_iconst (v := 0) hx hb dX1_longest_6 (by decide) ?_
  refine lv_istore_n (lv' := [(2, .int 0), (1, .int 0), (0, .ref (g 0))]) hx hb dX1_longest_7 rfl hl (by decide) rfl (fun ls hl => ?_)
  have lp : ∀ (k : Nat) (j : Nat) (H : Heap) (locs : List Loc) (ls : Array Slot), (LL w).length - j < k → j ≤ (LL w).length → va_P D vwCl (wM g d fw tc fm ff 1 (nI (LL w).length) (nI (smc w 16807))) H → va_D A (wM g d fw tc fm ff 1 (nI (LL w).length) (nI (smc w 16807))) → va_S A s.heap H locs → lv_has ls 5 [(0, .ref (g 0)), (1, .int (nI (lok (LL w) j))), (2, .int (nI j))] → W p l e rX1_longest s m args below meth mc H locs 0 0 Q (F0 m 8 ls []) := by
    intro k
    induction k with
    | zero =>
      intro j H locs ls hk
      exact absurd hk (Nat.not_lt_zero _)
    | succ k ih =>
      intro j H locs ls hk hj hP hD hS hl
      have hlk := lok_le (LL w) j
      refine lv_iload_n hx hb dX1_longest_8 rfl (lv_at hl 2 rfl) ?_
      refine lv_aload_n hx hb dX1_longest_9 rfl (lv_at hl 0 rfl) ?_
      refine va_get (D := D) (ci := 1) (v := .int (nI (LL w).length)) (C := RX1) (T := TX1) (N := 7) hx hb hts in_X1 hown hK hP 0 rfl rfl 2 (by decide) (hts _ q189) (fun _ h9 => h9) rfl dX1_longest_10 ?_
      refine z_ge (X := ((j : Nat) : Int)) (Y := (((LL w).length : Nat) : Int)) (tgt := 68) hx hb dX1_longest_13 (by decide) (nI_toInt (by omega)) (nI_toInt (by omega)) (fun hc5 => ?_) (fun hc5 => ?_)
      · obtain rfl : j = (LL w).length := (by omega)
        refine lv_iload_n hx hb dX1_longest_68 rfl (lv_at hl 1 rfl) ?_
        exact ret _ ((fw, tc, fm, ff, 1, nI (LL w).length, nI (smc w 16807))) _ _ _ _ dX1_longest_69 (rfl) (⟨rfl, ⟨ho, hw, Or.inr ⟨rfl, hL, rfl, rfl⟩⟩⟩) hP hD hS
      · have hj2 : j < (LL w).length := by omega
        have hg := LL_lt w _ (getD_mem hj2)
        have hsl : szk ((LL w).getD j 0) 5 ≤ 30 := sz_le ((LL w).getD j 0)
        refine lv_iload_n hx hb dX1_longest_16 rfl (lv_at hl 2 rfl) ?_
        refine lv_sipush (v := 2000) hx hb dX1_longest_17 (by decide) ?_
        refine z_ge (X := ((j : Nat) : Int)) (Y := 2000) (tgt := 68) hx hb dX1_longest_20 (by decide) (nI_toInt (by omega)) (by decide) (fun hc6 => ?_) (fun hc6 => ?_)
        · omega
        · have lp2 : ∀ (k : Nat) (i : Nat) (H : Heap) (locs : List Loc) (ls : Array Slot), 5 - i < k → i ≤ 5 → va_P D vwCl (wM g d fw tc fm ff 1 (nI (LL w).length) (nI (smc w 16807))) H → va_D A (wM g d fw tc fm ff 1 (nI (LL w).length) (nI (smc w 16807))) → va_S A s.heap H locs → lv_has ls 5 [(0, .ref (g 0)), (1, .int (nI (lok (LL w) j))), (2, .int (nI j)), (3, .int (nI (szk ((LL w).getD j 0) i))), (4, .int (nI i))] → W p l e rX1_longest s m args below meth mc H locs 0 0 Q (F0 m 28 ls []) := by
            intro k
            induction k with
            | zero =>
              intro i H locs ls hk
              exact absurd hk (Nat.not_lt_zero _)
            | succ k ih2 =>
              intro i H locs ls hk hi5 hP hD hS hl
              refine lv_iload hx hb dX1_longest_28 (lv_at hl 4 rfl) ?_
              refine lv_iconst (v := 5) hx hb dX1_longest_30 (by decide) ?_
              refine z_ge (X := ((i : Nat) : Int)) (Y := 5) (tgt := 55) hx hb dX1_longest_31 (by decide) (nI_toInt (by omega)) (by decide) (fun hc7 => ?_) (fun hc7 => ?_)
              · obtain rfl : i = 5 := (by omega)
                refine lv_iload_n hx hb dX1_longest_55 rfl (lv_at hl 3 rfl) ?_
                refine lv_iload_n hx hb dX1_longest_56 rfl (lv_at hl 1 rfl) ?_
                refine z_le (X := ((szk ((LL w).getD j 0) 5 : Nat) : Int)) (Y := ((lok (LL w) j : Nat) : Int)) (tgt := 62) hx hb dX1_longest_57 (by decide) (nI_toInt (by omega)) (nI_toInt (by omega)) (fun hd => ?_) (fun hd => ?_)
                · refine lv_iinc (v := nI (j + 1)) (lv' := [(2, .int (nI (j + 1))), (0, .ref (g 0)), (1, .int (nI (lok (LL w) j))), (3, .int (nI (szk ((LL w).getD j 0) 5))), (4, .int (nI 5))]) hx hb dX1_longest_62 hl (k := 2) rfl (nI_1 _) (by decide) rfl (fun ls hl => ?_)
                  refine lv_goto (tgt := 8) hx hb dX1_longest_65 (by decide) ?_
                  exact ih (j + 1) _ _ _ (by omega) (by omega) hP hD hS (by rw [← lok_0 (L := LL w) (k := j) (by unfold sz; omega)]; exact lv_sub hl [1, 2, 0] rfl)
                · refine lv_iload_n hx hb dX1_longest_60 rfl (lv_at hl 3 rfl) ?_
                  refine tpi (y := nI (lok (LL w) (j + 1))) (lok_1 (by unfold sz; omega)) ?_
                  refine lv_istore_n (lv' := [(1, .int (nI (lok (LL w) (j + 1)))), (0, .ref (g 0)), (2, .int (nI j)), (3, .int (nI (szk ((LL w).getD j 0) 5))), (4, .int (nI 5))]) hx hb dX1_longest_61 rfl hl (by decide) rfl (fun ls hl => ?_)
                  refine lv_iinc (v := nI (j + 1)) (lv' := [(2, .int (nI (j + 1))), (1, .int (nI (lok (LL w) (j + 1)))), (0, .ref (g 0)), (3, .int (nI (szk ((LL w).getD j 0) 5))), (4, .int (nI 5))]) hx hb dX1_longest_62 hl (k := 2) rfl (nI_1 _) (by decide) rfl (fun ls hl => ?_)
                  refine lv_goto (tgt := 8) hx hb dX1_longest_65 (by decide) ?_
                  exact ih (j + 1) _ _ _ (by omega) (by omega) hP hD hS (lv_sub hl [2, 1, 0] rfl)
              · refine lv_iload_n hx hb dX1_longest_34 rfl (lv_at hl 3 rfl) ?_
                refine lv_aload_n hx hb dX1_longest_35 rfl (lv_at hl 0 rfl) ?_
                refine lv_aload_n hx hb dX1_longest_36 rfl (lv_at hl 0 rfl) ?_
                refine va_get (D := D) (ci := 1) (v := .ref (g 2)) (C := RX1) (T := TX1) (N := 7) hx hb hts in_X1 hown hK hP 0 rfl rfl 4 (by decide) (hts _ q191) (fun _ h9 => h9) rfl dX1_longest_37 ?_
                refine lv_iload_n hx hb dX1_longest_40 rfl (lv_at hl 2 rfl) ?_
                refine xald hx hb hK hP 2 0 rfl rfl (j) (rfl) (by omega) (by decide) dX1_longest_41 ?_
                refine tpi (y := nI ((LL w).getD j 0)) (hL j hj2) ?_
                refine lv_iload hx hb dX1_longest_42 (lv_at hl 4 rfl) ?_
                refine cRO (As := [.int (nI ((LL w).getD j 0)), .int (nI i)]) (rest := [.int (nI (szk ((LL w).getD j 0) i))]) S (metX1_digit (c := (LL w).getD j 0) (i := i) hg (by omega)) (cwV 2 hts (lw_V q233 q235 qs15 q26 q236) rfl rfl rfl (by decide +kernel) ⟨Nat.le_of_ble_eq_true rfl, Nat.le_of_ble_eq_true rfl⟩) hK hP hS hA rfl rfl rfl hl.1 rfl (Nat.le_of_ble_eq_true rfl) dX1_longest_44 ⟨Nat.zero_le _, Nat.zero_le _⟩ (fun r9 H locs hr hP hS => ?_)
                obtain rfl : r9 = nI (dg ((LL w).getD j 0) i) := hr
                refine lv_iadd hx hb dX1_longest_47 ?_
                refine tpi (y := nI (szk ((LL w).getD j 0) (i + 1))) (nI_add _ _) ?_
                refine lv_istore_n (lv' := [(3, .int (nI (szk ((LL w).getD j 0) (i + 1)))), (0, .ref (g 0)), (1, .int (nI (lok (LL w) j))), (2, .int (nI j)), (4, .int (nI i))]) hx hb dX1_longest_48 rfl hl (by decide) rfl (fun ls hl => ?_)
                refine lv_iinc (v := nI (i + 1)) (lv' := [(4, .int (nI (i + 1))), (3, .int (nI (szk ((LL w).getD j 0) (i + 1)))), (0, .ref (g 0)), (1, .int (nI (lok (LL w) j))), (2, .int (nI j))]) hx hb dX1_longest_49 hl (k := 4) rfl (nI_1 _) (by decide) rfl (fun ls hl => ?_)
                refine lv_goto (tgt := 28) hx hb dX1_longest_52 (by decide) ?_
                exact ih2 (i + 1) _ _ _ (by omega) (by omega) hP hD hS (lv_sub hl [2, 3, 4, 1, 0] rfl)
          refine lv_iconst (v := 0) hx hb dX1_longest_23 (by decide) ?_
          refine lv_istore_n (lv' := [(3, .int 0), (0, .ref (g 0)), (1, .int (nI (lok (LL w) j))), (2, .int (nI j))]) hx hb dX1_longest_24 rfl hl (by decide) rfl (fun ls hl => ?_)
          refine lv_iconst (v := 0) hx hb dX1_longest_25 (by decide) ?_
          refine lv_istore (lv' := [(4, .int 0), (3, .int 0), (0, .ref (g 0)), (1, .int (nI (lok (LL w) j))), (2, .int (nI j))]) hx hb dX1_longest_26 hl (by decide) rfl (fun ls hl => ?_)
          exact lp2 _ 0 _ _ _ (Nat.lt_succ_self _) (by omega) hP hD hS (lv_sub hl [2, 3, 4, 1, 0] rfl)
  exact lp _ 0 _ _ _ (Nat.lt_succ_self _) (by omega) hP hD hS (lv_sub hl [2, 1, 0] rfl)
abbrev rX1_balances : Room := { frames := 1, cells := 0, slots := 0, locals := 25 }
set_option maxHeartbeats 4000000 in
set_option maxRecDepth 100000 in
theorem metX1_balances {l : Launch} {D : va_G} {d : ClassId} {g : Nat → Nat} {fw fc fm ff : Nat → Int32} {rdy cnt bal : Int32} {hz : Nat} {w : Nat → Int} {x : Int32} (hI : InvM w (fw, fc, fm, ff, rdy, cnt, bal)) : mIO l yX1_balances cX1_balances 5 .int rX1_balances [.ref (g 0), .int x] D d (wM g d fw fc fm ff rdy cnt bal) hz (S := SM) (fun r u => r = aBal w x ∧ InvM w u) (fun u => wSM g d u) := by
  refine mIO.ofW (by decide) (Nat.le_of_ble_eq_true rfl) ?_
  intro p e s m args below meth mc Q A ls S hP hK hA hS hl hD ret
  have S : CallFix p m mc cX1_balances 5 s args lw_all RX1 := S
  have hx := S.1
  have hb := S.2.1
  have hown := S.2.2.2.1
  have hts := S.2.2.2.2
  have hl : lv_has ls 5 [(0, .ref (g 0)), (1, .int x)] := hl
  obtain ⟨ho, hw, hi⟩ := hI
  have hw : hww fw w := hw
  have hi : rdy = 0 ∨ (rdy = 1 ∧ hli fc (LL w) ∧ cnt = nI (LL w).length ∧ bal = nI (smc w 16807)) := hi
  refine lv_iload_n hx hb dX1_balances_0 rfl (lv_at hl 1 rfl) ?_
  refine z0_lt (X := x.toInt) (tgt := 10) hx hb dX1_balances_1 (by decide) rfl (fun hc1 => ?_) (fun hc1 => ?_)
  · refine lv_iconst (v := -1) hx hb dX1_balances_10 (by decide) ?_
    exact ret _ ((fw, fc, fm, ff, rdy, cnt, bal)) _ _ _ _ dX1_balances_11 (rfl) (⟨(if_neg (by omega)).symm, ⟨ho, hw, hi⟩⟩) hP hD hS
  · refine lv_iload_n hx hb dX1_balances_4 rfl (lv_at hl 1 rfl) ?_
    refine lv_bipush (v := 20) hx hb dX1_balances_5 (by decide) ?_
    refine z_le (X := x.toInt) (Y := 20) (tgt := 12) hx hb dX1_balances_7 (by decide) rfl (by decide) (fun hc2 => ?_) (fun hc2 => ?_)
    · obtain ⟨n, hn, rfl⟩ := of_range (N := 21) (x := x) (by omega)
      have o0 := ho 0 (by decide)
      have o1 := ho 1 (by decide)
      have lp : ∀ (k : Nat) (v : Nat) (H : Heap) (locs : List Loc) (ls : Array Slot), n + 1 - v < k → v ≤ n + 1 → va_P D vwCl (wM g d fw fc fm ff rdy cnt bal) H → va_D A (wM g d fw fc fm ff rdy cnt bal) → va_S A s.heap H locs → lv_has ls 5 [(0, .ref (g 0)), (1, .int (nI n)), (2, .int (nI (sumk (mbr w n) v))), (3, .int (nI v))] → W p l e rX1_balances s m args below meth mc H locs 0 0 Q (F0 m 16 ls []) := by
        intro k
        induction k with
        | zero =>
          intro v H locs ls hk
          exact absurd hk (Nat.not_lt_zero _)
        | succ k ih =>
          intro v H locs ls hk hv hP hD hS hl
          refine lv_iload_n hx hb dX1_balances_16 rfl (lv_at hl 3 rfl) ?_
          refine lv_iload_n hx hb dX1_balances_17 rfl (lv_at hl 1 rfl) ?_
          refine z_gt (X := ((v : Nat) : Int)) (Y := ((n : Nat) : Int)) (tgt := 76) hx hb dX1_balances_18 (by decide) (nI_toInt (by omega)) (nI_toInt (by omega)) (fun hc6 => ?_) (fun hc6 => ?_)
          · obtain rfl : v = n + 1 := (by omega)
            refine lv_iload_n hx hb dX1_balances_76 rfl (lv_at hl 2 rfl) ?_
            exact ret _ ((fw, fc, fm, ff, rdy, cnt, bal)) _ _ _ _ dX1_balances_77 (rfl) (⟨by rw [aBal_0 hn, ← bal_eq]; rfl, ⟨ho, hw, hi⟩⟩) hP hD hS
          · have lp2 : ∀ (k : Nat) (y : Nat) (H : Heap) (locs : List Loc) (ls : Array Slot), n - v + 1 - y < k → y ≤ n - v + 1 → va_P D vwCl (wM g d fw fc fm ff rdy cnt bal) H → va_D A (wM g d fw fc fm ff rdy cnt bal) → va_S A s.heap H locs → lv_has ls 5 [(0, .ref (g 0)), (1, .int (nI n)), (2, .int (nI (sumk (mbr w n) v + sumk (mbg w n v) y))), (3, .int (nI v)), (4, .int (nI y))] → W p l e rX1_balances s m args below meth mc H locs 0 0 Q (F0 m 24 ls []) := by
              intro k
              induction k with
              | zero =>
                intro y H locs ls hk
                exact absurd hk (Nat.not_lt_zero _)
              | succ k ih2 =>
                intro y H locs ls hk hy hP hD hS hl
                refine lv_iload hx hb dX1_balances_24 (lv_at hl 4 rfl) ?_
                refine lv_iload_n hx hb dX1_balances_26 rfl (lv_at hl 1 rfl) ?_
                refine lv_iload_n hx hb dX1_balances_27 rfl (lv_at hl 3 rfl) ?_
                refine lv_isub hx hb dX1_balances_28 ?_
                refine tpi (y := nI (n - v)) (pk_sub (by omega)) ?_
                refine z_gt (X := ((y : Nat) : Int)) (Y := ((n - v : Nat) : Int)) (tgt := 70) hx hb dX1_balances_29 (by decide) (nI_toInt (by omega)) (nI_toInt (by omega)) (fun hc7 => ?_) (fun hc7 => ?_)
                · obtain rfl : y = n - v + 1 := (by omega)
                  refine lv_iinc (v := nI (v + 1)) (lv' := [(3, .int (nI (v + 1))), (0, .ref (g 0)), (1, .int (nI n)), (2, .int (nI (sumk (mbr w n) v + sumk (mbg w n v) (n - v + 1)))), (4, .int (nI (n - v + 1)))]) hx hb dX1_balances_70 hl (k := 3) rfl (nI_1 _) (by decide) rfl (fun ls hl => ?_)
                  refine lv_goto (tgt := 16) hx hb dX1_balances_73 (by decide) ?_
                  exact ih (v + 1) _ _ _ (by omega) (by omega) hP hD hS (lv_sub hl [1, 2, 3, 0] rfl)
                · have b0 := mulb (a := v) (n := n) (by omega) o0
                  have b1 := mulb (a := y) (n := n) (by omega) o1
                  have e0 : -(v : Int) * w 0 = -((v : Int) * w 0) := Int.neg_mul _ _
                  refine lv_iload_n hx hb dX1_balances_32 rfl (lv_at hl 2 rfl) ?_
                  refine lv_aload_n hx hb dX1_balances_33 rfl (lv_at hl 0 rfl) ?_
                  refine lv_iload_n hx hb dX1_balances_34 rfl (lv_at hl 1 rfl) ?_
                  refine lv_iload_n hx hb dX1_balances_35 rfl (lv_at hl 3 rfl) ?_
                  refine lv_isub hx hb dX1_balances_36 ?_
                  refine tpi (y := nI (n - v)) (pk_sub (by omega)) ?_
                  refine lv_iload hx hb dX1_balances_37 (lv_at hl 4 rfl) ?_
                  refine lv_isub hx hb dX1_balances_39 ?_
                  refine tpi (y := nI (n - v - y)) (pk_sub (by omega)) ?_
                  refine lv_iload_n hx hb dX1_balances_40 rfl (lv_at hl 3 rfl) ?_
                  refine lv_ineg hx hb dX1_balances_41 ?_
                  refine tpi (y := iI (-(v : Int))) (by rw [nI_iI]; exact iI_neg _) ?_
                  refine lv_aload_n hx hb dX1_balances_42 rfl (lv_at hl 0 rfl) ?_
                  refine va_get (D := D) (ci := 1) (v := .ref (g 1)) (C := RX1) (T := TX1) (N := 7) hx hb hts in_X1 hown hK hP 0 rfl rfl 0 (by decide) (hts _ q187) (fun _ h9 => h9) rfl dX1_balances_43 ?_
                  refine lv_iconst (v := 0) hx hb dX1_balances_46 (by decide) ?_
                  refine xald hx hb hK hP 1 0 rfl rfl (0) (nI_0.symm) (by decide) (by decide) dX1_balances_47 ?_
                  refine tpi (y := iI (w 0)) (hw 0 (by decide)) ?_
                  refine lv_imul hx hb dX1_balances_48 ?_
                  refine tpi (y := iI (-(v : Int) * w 0)) (iI_mul _ _) ?_
                  refine lv_iload hx hb dX1_balances_49 (lv_at hl 4 rfl) ?_
                  refine lv_aload_n hx hb dX1_balances_51 rfl (lv_at hl 0 rfl) ?_
                  refine va_get (D := D) (ci := 1) (v := .ref (g 1)) (C := RX1) (T := TX1) (N := 7) hx hb hts in_X1 hown hK hP 0 rfl rfl 0 (by decide) (hts _ q187) (fun _ h9 => h9) rfl dX1_balances_52 ?_
                  refine lv_iconst (v := 1) hx hb dX1_balances_55 (by decide) ?_
                  refine xald hx hb hK hP 1 0 rfl rfl (1) (rfl) (by decide) (by decide) dX1_balances_56 ?_
                  refine tpi (y := iI (w 1)) (hw 1 (by decide)) ?_
                  refine lv_imul hx hb dX1_balances_57 ?_
                  refine tpi (y := iI ((y : Int) * w 1)) (by rw [nI_iI, iI_mul]) ?_
                  refine lv_isub hx hb dX1_balances_58 ?_
                  refine tpi (y := iI (-(v : Int) * w 0 - (y : Int) * w 1)) (iI_sub _ _) ?_
                  refine cRO (As := [.int (nI (n - v - y)), .int (iI (-(v : Int) * w 0 - (y : Int) * w 1))]) (rest := [.int (nI (sumk (mbr w n) v + sumk (mbg w n v) y))]) S (metX1_lastThree (n := n - v - y) (z := -(v : Int) * w 0 - (y : Int) * w 1) (w := w) hw ho (by omega) (by omega)) (cwV 2 hts (lw_V q273 q275 qs19 q26 q276) rfl rfl rfl (by decide +kernel) ⟨Nat.le_of_ble_eq_true rfl, Nat.le_of_ble_eq_true rfl⟩) hK hP hS hA rfl rfl rfl hl.1 rfl (Nat.le_of_ble_eq_true rfl) dX1_balances_59 ⟨Nat.zero_le _, Nat.zero_le _⟩ (fun r9 H locs hr hP hS => ?_)
                  obtain rfl : r9 = nI (mbg w n v y) := hr
                  refine lv_iadd hx hb dX1_balances_62 ?_
                  refine tpi (y := nI (sumk (mbr w n) v + sumk (mbg w n v) (y + 1))) (by rw [nI_add, Nat.add_assoc]; rfl) ?_
                  refine lv_istore_n (lv' := [(2, .int (nI (sumk (mbr w n) v + sumk (mbg w n v) (y + 1)))), (0, .ref (g 0)), (1, .int (nI n)), (3, .int (nI v)), (4, .int (nI y))]) hx hb dX1_balances_63 rfl hl (by decide) rfl (fun ls hl => ?_)
                  refine lv_iinc (v := nI (y + 1)) (lv' := [(4, .int (nI (y + 1))), (2, .int (nI (sumk (mbr w n) v + sumk (mbg w n v) (y + 1)))), (0, .ref (g 0)), (1, .int (nI n)), (3, .int (nI v))]) hx hb dX1_balances_64 hl (k := 4) rfl (nI_1 _) (by decide) rfl (fun ls hl => ?_)
                  refine lv_goto (tgt := 24) hx hb dX1_balances_67 (by decide) ?_
                  exact ih2 (y + 1) _ _ _ (by omega) (by omega) hP hD hS (lv_sub hl [2, 3, 1, 4, 0] rfl)
            refine lv_iconst (v := 0) hx hb dX1_balances_21 (by decide) ?_
            refine lv_istore (lv' := [(4, .int 0), (0, .ref (g 0)), (1, .int (nI n)), (2, .int (nI (sumk (mbr w n) v))), (3, .int (nI v))]) hx hb dX1_balances_22 hl (by decide) rfl (fun ls hl => ?_)
            exact lp2 _ 0 _ _ _ (Nat.lt_succ_self _) (by omega) hP hD hS (lv_sub hl [1, 2, 3, 4, 0] rfl)
      refine lv_iconst (v := 0) hx hb dX1_balances_12 (by decide) ?_
      refine lv_istore_n (lv' := [(2, .int 0), (0, .ref (g 0)), (1, .int (nI n))]) hx hb dX1_balances_13 rfl hl (by decide) rfl (fun ls hl => ?_)
      refine lv_iconst (v := 0) hx hb dX1_balances_14 (by decide) ?_
      refine lv_istore_n (lv' := [(3, .int 0), (2, .int 0), (0, .ref (g 0)), (1, .int (nI n))]) hx hb dX1_balances_15 rfl hl (by decide) rfl (fun ls hl => ?_)
      exact lp _ 0 _ _ _ (Nat.lt_succ_self _) (by omega) hP hD hS (lv_sub hl [2, 3, 1, 0] rfl)
    · refine lv_iconst (v := -1) hx hb dX1_balances_10 (by decide) ?_
      exact ret _ ((fw, fc, fm, ff, rdy, cnt, bal)) _ _ _ _ dX1_balances_11 (rfl) (⟨(if_neg (by omega)).symm, ⟨ho, hw, hi⟩⟩) hP hD hS
abbrev rX1_fewest : Room := { frames := 4, cells := 0, slots := 0, locals := 99 }
set_option maxHeartbeats 4000000 in
set_option maxRecDepth 100000 in
theorem metX1_fewest {l : Launch} {D : va_G} {d : ClassId} {g : Nat → Nat} {fw fc fm ff : Nat → Int32} {rdy cnt bal : Int32} {hz : Nat} {w : Nat → Int} {x : Int32} (hI : InvM w (fw, fc, fm, ff, rdy, cnt, bal)) : mIO l yX1_fewest cX1_fewest 2 .int rX1_fewest [.ref (g 0), .int x] D d (wM g d fw fc fm ff rdy cnt bal) hz (S := SM) (fun r u => r = aFew w x ∧ InvM w u) (fun u => wSM g d u) := by
  refine mIO.ofW (by decide) (Nat.le_of_ble_eq_true rfl) ?_
  intro p e s m args below meth mc Q A ls S hP hK hA hS hl hD ret
  have S : CallFix p m mc cX1_fewest 2 s args lw_all RX1 := S
  have hx := S.1
  have hb := S.2.1
  have hown := S.2.2.2.1
  have hts := S.2.2.2.2
  have hl : lv_has ls 2 [(0, .ref (g 0)), (1, .int x)] := hl
  obtain ⟨ho, hw, hi⟩ := hI
  have hw : hww fw w := hw
  have hi : rdy = 0 ∨ (rdy = 1 ∧ hli fc (LL w) ∧ cnt = nI (LL w).length ∧ bal = nI (smc w 16807)) := hi
  refine lv_aload_n hx hb dX1_fewest_0 rfl (lv_at hl 0 rfl) ?_
  refine lv_iload_n hx hb dX1_fewest_1 rfl (lv_at hl 1 rfl) ?_
  refine cRO (As := [.int x]) (rest := []) S (metX1_badCode (x := x)) (cwV 1 hts (lw_V q225 q227 qs13 q26 q228) rfl rfl rfl (by decide +kernel) ⟨Nat.le_of_ble_eq_true rfl, Nat.le_of_ble_eq_true rfl⟩) hK hP hS hA rfl rfl rfl hl.1 rfl (Nat.le_of_ble_eq_true rfl) dX1_fewest_2 ⟨Nat.zero_le _, Nat.zero_le _⟩ (fun r9 H locs hr hP hS => ?_)
  obtain rfl : r9 = bI (decide (¬ (0 ≤ x.toInt ∧ x.toInt < 16807))) := hr
  refine b_eq (b := decide (¬ (0 ≤ x.toInt ∧ x.toInt < 16807))) (tgt := 10) hx hb dX1_fewest_5 (by decide) (fun hc => ?_) (fun hc => ?_)
  · obtain ⟨c, hc0, rfl⟩ := of_range (N := 16807) (Decidable.not_not.mp (of_decide_eq_false hc))
    refine lv_aload_n hx hb dX1_fewest_10 rfl (lv_at hl 0 rfl) ?_
    refine lv_iload_n hx hb dX1_fewest_11 rfl (lv_at hl 1 rfl) ?_
    refine cRO (As := [.int (nI c)]) (rest := []) S (metX1_balanced (c := c) (w := w) hw ho hc0) (cwV 1 hts (lw_V q229 q231 qs14 q26 q232) rfl rfl rfl (by decide +kernel) ⟨Nat.le_of_ble_eq_true rfl, Nat.le_of_ble_eq_true rfl⟩) hK hP hS hA rfl rfl rfl hl.1 rfl (Nat.le_of_ble_eq_true rfl) dX1_fewest_12 ⟨Nat.zero_le _, Nat.zero_le _⟩ (fun r9 H locs hr hP hS => ?_)
    obtain rfl : r9 = bI (decide (sm w c = 0)) := hr
    refine b_ne (b := decide (sm w c = 0)) (tgt := 21) hx hb dX1_fewest_15 (by decide) (fun hsb => ?_) (fun hsb => ?_)
    · have hs := of_decide_eq_true hsb
      refine lv_aload_n hx hb dX1_fewest_21 rfl (lv_at hl 0 rfl) ?_
      refine cVO (As := []) (rest := []) S (metX1_work (w := w) hw ho hi) (cwV 0 hts (lw_V q241 q243 qs16 q26 q244) rfl rfl rfl (by decide +kernel) ⟨Nat.le_of_ble_eq_true rfl, Nat.le_of_ble_eq_true rfl⟩) hK hP hD hS hA rfl rfl rfl hl.1 rfl (Nat.le_of_ble_eq_true rfl) dX1_fewest_22 ⟨Nat.zero_le _, Nat.zero_le _⟩ (fun u H locs hu hP hD hS => ?_)
      obtain ⟨tc, rfl⟩ : ∃ z, z = u := ⟨_, rfl⟩
      have hL : hli tc (LL w) := hu
      have hlen := LL_len w
      have hP : va_P D vwCl (wM g d fw tc fm ff 1 (nI (LL w).length) (nI (smc w 16807))) H := hP
      have hD : va_D A (wM g d fw tc fm ff 1 (nI (LL w).length) (nI (smc w 16807))) := hD
      refine lv_aload_n hx hb dX1_fewest_25 rfl (lv_at hl 0 rfl) ?_
      refine lv_iload_n hx hb dX1_fewest_26 rfl (lv_at hl 1 rfl) ?_
      refine cVO (As := [.int (nI c)]) (rest := []) S (metX1_sums (c := c) (L := LL w) hL rfl (by omega) (LL_ok w) hc0) (cwV 1 hts (lw_V q281 q283 qs20 q26 q284) rfl rfl rfl (by decide +kernel) ⟨Nat.le_of_ble_eq_true rfl, Nat.le_of_ble_eq_true rfl⟩) hK hP hD hS hA rfl rfl rfl hl.1 rfl (Nat.le_of_ble_eq_true rfl) dX1_fewest_27 ⟨Nat.zero_le _, Nat.zero_le _⟩ (fun u H locs hu hP hD hS => ?_)
      obtain ⟨tm, tf⟩ := u
      have hT : tbl tm tf c (LL w).reverse := hu
      have hT := hT c hc0 (pt_refl c)
      rw [wy_rev w hc0, fe_rev w hc0] at hT
      have hP : va_P D vwCl (wM g d fw tc tm tf 1 (nI (LL w).length) (nI (smc w 16807))) H := hP
      have hD : va_D A (wM g d fw tc tm tf 1 (nI (LL w).length) (nI (smc w 16807))) := hD
      refine lv_aload_n hx hb dX1_fewest_30 rfl (lv_at hl 0 rfl) ?_
      refine va_get (D := D) (ci := 1) (v := .ref (g 4)) (C := RX1) (T := TX1) (N := 7) hx hb hts in_X1 hown hK hP 0 rfl rfl 6 (by decide) (hts _ q193) (fun _ h9 => h9) rfl dX1_fewest_31 ?_
      refine lv_iload_n hx hb dX1_fewest_34 rfl (lv_at hl 1 rfl) ?_
      refine xald hx hb hK hP 4 0 rfl rfl (c) (rfl) (by omega) (by decide) dX1_fewest_35 ?_
      refine tpi (y := nI (fe (LL w) c)) (hT.2) ?_
      exact ret _ ((fw, tc, tm, tf, 1, nI (LL w).length, nI (smc w 16807))) _ _ _ _ dX1_fewest_36 (rfl) (⟨(aFew_0 hc0 hs).symm, ⟨ho, hw, Or.inr ⟨rfl, hL, rfl, rfl⟩⟩⟩) hP hD hS
    · refine lv_bipush (v := -2) hx hb dX1_fewest_18 (by decide) ?_
      exact ret _ ((fw, fc, fm, ff, rdy, cnt, bal)) _ _ _ _ dX1_fewest_20 (rfl) (⟨(aFew_2 hc0 (of_decide_eq_false hsb)).symm, ⟨ho, hw, hi⟩⟩) hP hD hS
  · refine lv_iconst (v := -1) hx hb dX1_fewest_8 (by decide) ?_
    exact ret _ ((fw, fc, fm, ff, rdy, cnt, bal)) _ _ _ _ dX1_fewest_9 (rfl) (⟨(if_neg (of_decide_eq_true hc)).symm, ⟨ho, hw, hi⟩⟩) hP hD hS
abbrev rX1_ways : Room := { frames := 4, cells := 0, slots := 0, locals := 99 }
set_option maxHeartbeats 4000000 in
set_option maxRecDepth 100000 in
theorem metX1_ways {l : Launch} {D : va_G} {d : ClassId} {g : Nat → Nat} {fw fc fm ff : Nat → Int32} {rdy cnt bal : Int32} {hz : Nat} {w : Nat → Int} {x : Int32} (hI : InvM w (fw, fc, fm, ff, rdy, cnt, bal)) : mIO l yX1_ways cX1_ways 2 .int rX1_ways [.ref (g 0), .int x] D d (wM g d fw fc fm ff rdy cnt bal) hz (S := SM) (fun r u => r = aWays w x ∧ InvM w u) (fun u => wSM g d u) := by
  refine mIO.ofW (by decide) (Nat.le_of_ble_eq_true rfl) ?_
  intro p e s m args below meth mc Q A ls S hP hK hA hS hl hD ret
  have S : CallFix p m mc cX1_ways 2 s args lw_all RX1 := S
  have hx := S.1
  have hb := S.2.1
  have hown := S.2.2.2.1
  have hts := S.2.2.2.2
  have hl : lv_has ls 2 [(0, .ref (g 0)), (1, .int x)] := hl
  obtain ⟨ho, hw, hi⟩ := hI
  have hw : hww fw w := hw
  have hi : rdy = 0 ∨ (rdy = 1 ∧ hli fc (LL w) ∧ cnt = nI (LL w).length ∧ bal = nI (smc w 16807)) := hi
  refine lv_aload_n hx hb dX1_ways_0 rfl (lv_at hl 0 rfl) ?_
  refine lv_iload_n hx hb dX1_ways_1 rfl (lv_at hl 1 rfl) ?_
  refine cRO (As := [.int x]) (rest := []) S (metX1_badCode (x := x)) (cwV 1 hts (lw_V q225 q227 qs13 q26 q228) rfl rfl rfl (by decide +kernel) ⟨Nat.le_of_ble_eq_true rfl, Nat.le_of_ble_eq_true rfl⟩) hK hP hS hA rfl rfl rfl hl.1 rfl (Nat.le_of_ble_eq_true rfl) dX1_ways_2 ⟨Nat.zero_le _, Nat.zero_le _⟩ (fun r9 H locs hr hP hS => ?_)
  obtain rfl : r9 = bI (decide (¬ (0 ≤ x.toInt ∧ x.toInt < 16807))) := hr
  refine b_eq (b := decide (¬ (0 ≤ x.toInt ∧ x.toInt < 16807))) (tgt := 10) hx hb dX1_ways_5 (by decide) (fun hc => ?_) (fun hc => ?_)
  · obtain ⟨c, hc0, rfl⟩ := of_range (N := 16807) (Decidable.not_not.mp (of_decide_eq_false hc))
    refine lv_aload_n hx hb dX1_ways_10 rfl (lv_at hl 0 rfl) ?_
    refine lv_iload_n hx hb dX1_ways_11 rfl (lv_at hl 1 rfl) ?_
    refine cRO (As := [.int (nI c)]) (rest := []) S (metX1_balanced (c := c) (w := w) hw ho hc0) (cwV 1 hts (lw_V q229 q231 qs14 q26 q232) rfl rfl rfl (by decide +kernel) ⟨Nat.le_of_ble_eq_true rfl, Nat.le_of_ble_eq_true rfl⟩) hK hP hS hA rfl rfl rfl hl.1 rfl (Nat.le_of_ble_eq_true rfl) dX1_ways_12 ⟨Nat.zero_le _, Nat.zero_le _⟩ (fun r9 H locs hr hP hS => ?_)
    obtain rfl : r9 = bI (decide (sm w c = 0)) := hr
    refine b_ne (b := decide (sm w c = 0)) (tgt := 21) hx hb dX1_ways_15 (by decide) (fun hsb => ?_) (fun hsb => ?_)
    · have hs := of_decide_eq_true hsb
      refine lv_aload_n hx hb dX1_ways_21 rfl (lv_at hl 0 rfl) ?_
      refine cVO (As := []) (rest := []) S (metX1_work (w := w) hw ho hi) (cwV 0 hts (lw_V q241 q243 qs16 q26 q244) rfl rfl rfl (by decide +kernel) ⟨Nat.le_of_ble_eq_true rfl, Nat.le_of_ble_eq_true rfl⟩) hK hP hD hS hA rfl rfl rfl hl.1 rfl (Nat.le_of_ble_eq_true rfl) dX1_ways_22 ⟨Nat.zero_le _, Nat.zero_le _⟩ (fun u H locs hu hP hD hS => ?_)
      obtain ⟨tc, rfl⟩ : ∃ z, z = u := ⟨_, rfl⟩
      have hL : hli tc (LL w) := hu
      have hlen := LL_len w
      have hP : va_P D vwCl (wM g d fw tc fm ff 1 (nI (LL w).length) (nI (smc w 16807))) H := hP
      have hD : va_D A (wM g d fw tc fm ff 1 (nI (LL w).length) (nI (smc w 16807))) := hD
      refine lv_aload_n hx hb dX1_ways_25 rfl (lv_at hl 0 rfl) ?_
      refine lv_iload_n hx hb dX1_ways_26 rfl (lv_at hl 1 rfl) ?_
      refine cVO (As := [.int (nI c)]) (rest := []) S (metX1_sums (c := c) (L := LL w) hL rfl (by omega) (LL_ok w) hc0) (cwV 1 hts (lw_V q281 q283 qs20 q26 q284) rfl rfl rfl (by decide +kernel) ⟨Nat.le_of_ble_eq_true rfl, Nat.le_of_ble_eq_true rfl⟩) hK hP hD hS hA rfl rfl rfl hl.1 rfl (Nat.le_of_ble_eq_true rfl) dX1_ways_27 ⟨Nat.zero_le _, Nat.zero_le _⟩ (fun u H locs hu hP hD hS => ?_)
      obtain ⟨tm, tf⟩ := u
      have hT : tbl tm tf c (LL w).reverse := hu
      have hT := hT c hc0 (pt_refl c)
      rw [wy_rev w hc0, fe_rev w hc0] at hT
      have hP : va_P D vwCl (wM g d fw tc tm tf 1 (nI (LL w).length) (nI (smc w 16807))) H := hP
      have hD : va_D A (wM g d fw tc tm tf 1 (nI (LL w).length) (nI (smc w 16807))) := hD
      refine lv_aload_n hx hb dX1_ways_30 rfl (lv_at hl 0 rfl) ?_
      refine va_get (D := D) (ci := 1) (v := .ref (g 3)) (C := RX1) (T := TX1) (N := 7) hx hb hts in_X1 hown hK hP 0 rfl rfl 5 (by decide) (hts _ q192) (fun _ h9 => h9) rfl dX1_ways_31 ?_
      refine lv_iload_n hx hb dX1_ways_34 rfl (lv_at hl 1 rfl) ?_
      refine xald hx hb hK hP 3 0 rfl rfl (c) (rfl) (by omega) (by decide) dX1_ways_35 ?_
      refine tpi (y := nI (wy (LL w) c)) (hT.1) ?_
      exact ret _ ((fw, tc, tm, tf, 1, nI (LL w).length, nI (smc w 16807))) _ _ _ _ dX1_ways_36 (rfl) (⟨(aWays_0 hc0 hs).symm, ⟨ho, hw, Or.inr ⟨rfl, hL, rfl, rfl⟩⟩⟩) hP hD hS
    · refine lv_bipush (v := -2) hx hb dX1_ways_18 (by decide) ?_
      exact ret _ ((fw, fc, fm, ff, rdy, cnt, bal)) _ _ _ _ dX1_ways_20 (rfl) (⟨(aWays_2 hc0 (of_decide_eq_false hsb)).symm, ⟨ho, hw, hi⟩⟩) hP hD hS
  · refine lv_iconst (v := -1) hx hb dX1_ways_8 (by decide) ?_
    exact ret _ ((fw, fc, fm, ff, rdy, cnt, bal)) _ _ _ _ dX1_ways_9 (rfl) (⟨(if_neg (of_decide_eq_true hc)).symm, ⟨ho, hw, hi⟩⟩) hP hD hS
abbrev rX1_inside : Room := { frames := 4, cells := 0, slots := 0, locals := 89 }
set_option maxHeartbeats 4000000 in
set_option maxRecDepth 100000 in
theorem metX1_inside {l : Launch} {D : va_G} {d : ClassId} {g : Nat → Nat} {fw fc fm ff : Nat → Int32} {rdy cnt bal : Int32} {hz : Nat} {w : Nat → Int} {x : Int32} (hI : InvM w (fw, fc, fm, ff, rdy, cnt, bal)) : mIO l yX1_inside cX1_inside 3 .int rX1_inside [.ref (g 0), .int x] D d (wM g d fw fc fm ff rdy cnt bal) hz (S := SM) (fun r u => r = aIns w x ∧ InvM w u) (fun u => wSM g d u) := by
  refine mIO.ofW (by decide) (Nat.le_of_ble_eq_true rfl) ?_
  intro p e s m args below meth mc Q A ls S hP hK hA hS hl hD ret
  have S : CallFix p m mc cX1_inside 3 s args lw_all RX1 := S
  have hx := S.1
  have hb := S.2.1
  have hown := S.2.2.2.1
  have hts := S.2.2.2.2
  have hl : lv_has ls 3 [(0, .ref (g 0)), (1, .int x)] := hl
  obtain ⟨ho, hw, hi⟩ := hI
  have hw : hww fw w := hw
  have hi : rdy = 0 ∨ (rdy = 1 ∧ hli fc (LL w) ∧ cnt = nI (LL w).length ∧ bal = nI (smc w 16807)) := hi
  refine lv_aload_n hx hb dX1_inside_0 rfl (lv_at hl 0 rfl) ?_
  refine lv_iload_n hx hb dX1_inside_1 rfl (lv_at hl 1 rfl) ?_
  refine cRO (As := [.int x]) (rest := []) S (metX1_badCode (x := x)) (cwV 1 hts (lw_V q225 q227 qs13 q26 q228) rfl rfl rfl (by decide +kernel) ⟨Nat.le_of_ble_eq_true rfl, Nat.le_of_ble_eq_true rfl⟩) hK hP hS hA rfl rfl rfl hl.1 rfl (Nat.le_of_ble_eq_true rfl) dX1_inside_2 ⟨Nat.zero_le _, Nat.zero_le _⟩ (fun r9 H locs hr hP hS => ?_)
  obtain rfl : r9 = bI (decide (¬ (0 ≤ x.toInt ∧ x.toInt < 16807))) := hr
  refine b_eq (b := decide (¬ (0 ≤ x.toInt ∧ x.toInt < 16807))) (tgt := 10) hx hb dX1_inside_5 (by decide) (fun hc => ?_) (fun hc => ?_)
  · obtain ⟨c, hc0, rfl⟩ := of_range (N := 16807) (Decidable.not_not.mp (of_decide_eq_false hc))
    refine lv_aload_n hx hb dX1_inside_10 rfl (lv_at hl 0 rfl) ?_
    refine cVO (As := []) (rest := []) S (metX1_work (w := w) hw ho hi) (cwV 0 hts (lw_V q241 q243 qs16 q26 q244) rfl rfl rfl (by decide +kernel) ⟨Nat.le_of_ble_eq_true rfl, Nat.le_of_ble_eq_true rfl⟩) hK hP hD hS hA rfl rfl rfl hl.1 rfl (Nat.le_of_ble_eq_true rfl) dX1_inside_11 ⟨Nat.zero_le _, Nat.zero_le _⟩ (fun u H locs hu hP hD hS => ?_)
    obtain ⟨tc, rfl⟩ : ∃ z, z = u := ⟨_, rfl⟩
    have hL : hli tc (LL w) := hu
    have hlen := LL_len w
    have hP : va_P D vwCl (wM g d fw tc fm ff 1 (nI (LL w).length) (nI (smc w 16807))) H := hP
    have hD : va_D A (wM g d fw tc fm ff 1 (nI (LL w).length) (nI (smc w 16807))) := hD
    refine lv_iconst (v := 0) hx hb dX1_inside_14 (by decide) ?_
    refine lv_istore_n (lv' := [(2, .int 0), (0, .ref (g 0)), (1, .int (nI c))]) hx hb dX1_inside_15 rfl hl (by decide) rfl (fun ls hl => ?_)
    have lp : ∀ (k : Nat) (j : Nat) (H : Heap) (locs : List Loc) (ls : Array Slot), (LL w).length - j < k → j ≤ (LL w).length → hp ((LL w).take j) c = false → va_P D vwCl (wM g d fw tc fm ff 1 (nI (LL w).length) (nI (smc w 16807))) H → va_D A (wM g d fw tc fm ff 1 (nI (LL w).length) (nI (smc w 16807))) → va_S A s.heap H locs → lv_has ls 3 [(0, .ref (g 0)), (1, .int (nI c)), (2, .int (nI j))] → W p l e rX1_inside s m args below meth mc H locs 0 0 Q (F0 m 16 ls []) := by
      intro k
      induction k with
      | zero =>
        intro j H locs ls hk
        exact absurd hk (Nat.not_lt_zero _)
      | succ k ih =>
        intro j H locs ls hk hj ht hP hD hS hl
        refine lv_iload_n hx hb dX1_inside_16 rfl (lv_at hl 2 rfl) ?_
        refine lv_aload_n hx hb dX1_inside_17 rfl (lv_at hl 0 rfl) ?_
        refine va_get (D := D) (ci := 1) (v := .int (nI (LL w).length)) (C := RX1) (T := TX1) (N := 7) hx hb hts in_X1 hown hK hP 0 rfl rfl 2 (by decide) (hts _ q189) (fun _ h9 => h9) rfl dX1_inside_18 ?_
        refine z_ge (X := ((j : Nat) : Int)) (Y := (((LL w).length : Nat) : Int)) (tgt := 58) hx hb dX1_inside_21 (by decide) (nI_toInt (by omega)) (nI_toInt (by omega)) (fun hc5 => ?_) (fun hc5 => ?_)
        · obtain rfl : j = (LL w).length := (by omega)
          rw [List.take_length] at ht
          refine lv_bipush (v := -2) hx hb dX1_inside_58 (by decide) ?_
          exact ret _ ((fw, tc, fm, ff, 1, nI (LL w).length, nI (smc w 16807))) _ _ _ _ dX1_inside_60 (rfl) (⟨by rw [aIns_0 hc0]; exact (insd_none ht).symm, ⟨ho, hw, Or.inr ⟨rfl, hL, rfl, rfl⟩⟩⟩) hP hD hS
        · have hj2 : j < (LL w).length := by omega
          have hg := LL_lt w _ (getD_mem hj2)
          refine lv_iload_n hx hb dX1_inside_24 rfl (lv_at hl 2 rfl) ?_
          refine lv_sipush (v := 2000) hx hb dX1_inside_25 (by decide) ?_
          refine z_ge (X := ((j : Nat) : Int)) (Y := 2000) (tgt := 58) hx hb dX1_inside_28 (by decide) (nI_toInt (by omega)) (by decide) (fun hc6 => ?_) (fun hc6 => ?_)
          · omega
          · refine lv_aload_n hx hb dX1_inside_31 rfl (lv_at hl 0 rfl) ?_
            refine lv_aload_n hx hb dX1_inside_32 rfl (lv_at hl 0 rfl) ?_
            refine va_get (D := D) (ci := 1) (v := .ref (g 2)) (C := RX1) (T := TX1) (N := 7) hx hb hts in_X1 hown hK hP 0 rfl rfl 4 (by decide) (hts _ q191) (fun _ h9 => h9) rfl dX1_inside_33 ?_
            refine lv_iload_n hx hb dX1_inside_36 rfl (lv_at hl 2 rfl) ?_
            refine xald hx hb hK hP 2 0 rfl rfl (j) (rfl) (by omega) (by decide) dX1_inside_37 ?_
            refine tpi (y := nI ((LL w).getD j 0)) (hL j hj2) ?_
            refine lv_iload_n hx hb dX1_inside_38 rfl (lv_at hl 1 rfl) ?_
            refine cRO (As := [.int (nI ((LL w).getD j 0)), .int (nI c)]) (rest := []) S (metX1_part (a := (LL w).getD j 0) (b := c) hg hc0) (cwV 2 hts (lw_V q249 q251 qs18 q26 q252) rfl rfl rfl (by decide +kernel) ⟨Nat.le_of_ble_eq_true rfl, Nat.le_of_ble_eq_true rfl⟩) hK hP hS hA rfl rfl rfl hl.1 rfl (Nat.le_of_ble_eq_true rfl) dX1_inside_39 ⟨Nat.zero_le _, Nat.zero_le _⟩ (fun r9 H locs hr hP hS => ?_)
            obtain rfl : r9 = bI (pt ((LL w).getD j 0) c) := hr
            refine b_eq (b := pt ((LL w).getD j 0) c) (tgt := 52) hx hb dX1_inside_42 (by decide) (fun hpt => ?_) (fun hpt => ?_)
            · refine lv_iinc (v := nI (j + 1)) (lv' := [(2, .int (nI (j + 1))), (0, .ref (g 0)), (1, .int (nI c))]) hx hb dX1_inside_52 hl (k := 2) rfl (nI_1 _) (by decide) rfl (fun ls hl => ?_)
              refine lv_goto (tgt := 16) hx hb dX1_inside_55 (by decide) ?_
              exact ih (j + 1) _ _ _ (by omega) (by omega) (hp_take hj2 ht hpt) hP hD hS (lv_sub hl [1, 2, 0] rfl)
            · refine lv_aload_n hx hb dX1_inside_45 rfl (lv_at hl 0 rfl) ?_
              refine va_get (D := D) (ci := 1) (v := .ref (g 2)) (C := RX1) (T := TX1) (N := 7) hx hb hts in_X1 hown hK hP 0 rfl rfl 4 (by decide) (hts _ q191) (fun _ h9 => h9) rfl dX1_inside_46 ?_
              refine lv_iload_n hx hb dX1_inside_49 rfl (lv_at hl 2 rfl) ?_
              refine xald hx hb hK hP 2 0 rfl rfl (j) (rfl) (by omega) (by decide) dX1_inside_50 ?_
              refine tpi (y := nI ((LL w).getD j 0)) (hL j hj2) ?_
              exact ret _ ((fw, tc, fm, ff, 1, nI (LL w).length, nI (smc w 16807))) _ _ _ _ dX1_inside_51 (rfl) (⟨by rw [aIns_0 hc0]; exact (insd_here hj2 ht hpt).symm, ⟨ho, hw, Or.inr ⟨rfl, hL, rfl, rfl⟩⟩⟩) hP hD hS
    exact lp _ 0 _ _ _ (Nat.lt_succ_self _) (by omega) rfl hP hD hS (lv_sub hl [1, 2, 0] rfl)
  · refine lv_iconst (v := -1) hx hb dX1_inside_8 (by decide) ?_
    exact ret _ ((fw, fc, fm, ff, rdy, cnt, bal)) _ _ _ _ dX1_inside_9 (rfl) (⟨(if_neg (of_decide_eq_true hc)).symm, ⟨ho, hw, hi⟩⟩) hP hD hS
abbrev rX1_small : Room := { frames := 4, cells := 0, slots := 0, locals := 89 }
set_option maxHeartbeats 4000000 in
set_option maxRecDepth 100000 in
theorem metX1_small {l : Launch} {D : va_G} {d : ClassId} {g : Nat → Nat} {fw fc fm ff : Nat → Int32} {rdy cnt bal : Int32} {hz : Nat} {w : Nat → Int} (hI : InvM w (fw, fc, fm, ff, rdy, cnt, bal)) : mIO l yX1_small cX1_small 1 .int rX1_small [.ref (g 0)] D d (wM g d fw fc fm ff rdy cnt bal) hz (S := SM) (fun r u => r = aSmall w ∧ InvM w u) (fun u => wSM g d u) := by
  refine mIO.ofW (by decide) (Nat.le_of_ble_eq_true rfl) ?_
  intro p e s m args below meth mc Q A ls S hP hK hA hS hl hD ret
  have S : CallFix p m mc cX1_small 1 s args lw_all RX1 := S
  have hx := S.1
  have hb := S.2.1
  have hown := S.2.2.2.1
  have hts := S.2.2.2.2
  have hl : lv_has ls 1 [(0, .ref (g 0))] := hl
  obtain ⟨ho, hw, hi⟩ := hI
  have hw : hww fw w := hw
  have hi : rdy = 0 ∨ (rdy = 1 ∧ hli fc (LL w) ∧ cnt = nI (LL w).length ∧ bal = nI (smc w 16807)) := hi
  refine lv_aload_n hx hb dX1_small_0 rfl (lv_at hl 0 rfl) ?_
  refine cVO (As := []) (rest := []) S (metX1_work (w := w) hw ho hi) (cwV 0 hts (lw_V q241 q243 qs16 q26 q244) rfl rfl rfl (by decide +kernel) ⟨Nat.le_of_ble_eq_true rfl, Nat.le_of_ble_eq_true rfl⟩) hK hP hD hS hA rfl rfl rfl hl.1 rfl (Nat.le_of_ble_eq_true rfl) dX1_small_1 ⟨Nat.zero_le _, Nat.zero_le _⟩ (fun u H locs hu hP hD hS => ?_)
  obtain ⟨tc, rfl⟩ : ∃ z, z = u := ⟨_, rfl⟩
  have hL : hli tc (LL w) := hu
  have hlen := LL_len w
  have hP : va_P D vwCl (wM g d fw tc fm ff 1 (nI (LL w).length) (nI (smc w 16807))) H := hP
  have hD : va_D A (wM g d fw tc fm ff 1 (nI (LL w).length) (nI (smc w 16807))) := hD
  refine lv_aload_n hx hb dX1_small_4 rfl (lv_at hl 0 rfl) ?_
  refine va_get (D := D) (ci := 1) (v := .int (nI (smc w 16807))) (C := RX1) (T := TX1) (N := 7) hx hb hts in_X1 hown hK hP 0 rfl rfl 3 (by decide) (hts _ q190) (fun _ h9 => h9) rfl dX1_small_5 ?_
  exact ret _ ((fw, tc, fm, ff, 1, nI (LL w).length, nI (smc w 16807))) _ _ _ _ dX1_small_8 (rfl) (⟨rfl, ⟨ho, hw, Or.inr ⟨rfl, hL, rfl, rfl⟩⟩⟩) hP hD hS
end
section
/-! constructors; calls beside another world; the script -/
set_option maxRecDepth 100000
def mNI (l : Launch) (y : MethodName) (cd : ByteArray) (nL : Nat) (rm : Room) (h0 : Nat) (D : va_G) (ci : Nat) (fs : List Value) (hz mc ms : Nat) {S : Type} (post : S → Prop) (wd : S → va_W) (cA : S → ClassId) : Prop :=
  Met l y (ws_ y cd nL none) rm (va_Pc [.ref h0] (fun U => U.heap.size = hz ∧ va_P D vwCl [(h0, .inr (ci, fs))] U.heap ∧ va_K D vwCl [] U ∧ va_D (fun _ => True) [(h0, .inr (ci, fs))])) (va_Qv post (fun u t => va_P D vwCl (wd u) t.heap ∧ va_K D vwCl [(cA u, .int)] t ∧ va_D (va_A [(h0, .inr (ci, fs))] hz) (wd u)) (va_A [(h0, .inr (ci, fs))] hz)) mc ms (va_A [(h0, .inr (ci, fs))] hz)
theorem mNI.ofW {l : Launch} {y : MethodName} {cd : ByteArray} {nL : Nat} {rm : Room} {h0 : Nat} {D : va_G} {ci : Nat} {fs : List Value} {hz mc ms : Nat} {S : Type} {post : S → Prop} {wd : S → va_W} {cA : S → ClassId} (hy : plainName y.cls = true) (hyn : y.name = "<init>") (hn : (lg_sl [Value.ref h0]).length ≤ nL)
    (body : ∀ (p : Program) (e : Env) (s : State) (m : MethodId) (args : Array Value) (below : List Frame) (meth : Method) (c : Code) (Q : State → Prop) (A : Nat → Prop) (ls : Array Slot), CallFix p m c cd nL s args lw_all y.cls → va_P D vwCl [(h0, .inr (ci, fs))] s.heap → va_K D vwCl [] s → (∀ q : Nat, s.heap.size ≤ q → A q) → va_S A s.heap s.heap [] → lv_has ls nL [(0, .ref h0)] → va_D A [(h0, .inr (ci, fs))] → meth.name = "<init>" →
      (∀ (u : S) (H : Heap) (locs : List Loc) (pc : Nat) (ls : Array Slot), decode cd pc = .ok (.return_, 1) → post u → va_P D vwCl (wd u) H → va_K D vwCl [(cA u, .int)] s → va_D A (wd u) → va_S A s.heap H locs → W p l e rm s m args below meth c H locs mc ms Q (F0 m pc ls [])) →
      W p l e rm s m args below meth c s.heap [] 0 0 Q (F0 m 0 ls [])) : mNI l y cd nL rm h0 D ci fs hz mc ms post wd cA := by
  refine Met.ofW (cc := cd) (maxL := nL) (ret := none) hy rfl ?_
  intro p e s m args below meth c s₁ B hml hv
  obtain ⟨rfl, hsz, hP, hK, hD0⟩ := hv
  subst hsz
  have hts := atoms_spec (ws := ws_ y cd nL none) B.pre
  have hts : ∀ w ∈ lw_all, w.before _ s = true := fun w h => hts w (List.mem_cons_of_mem _ h)
  have hown : s.vm.findClass y.cls = some m.cls := findClass_of_methodNamed B.named
  have hin : meth.name = "<init>" := (name_of_methodNamed B.named B.method).1.trans hyn
  have hl := lv_entry [Value.ref h0] (n := nL) hn
  rw [lg_entry_eq]
  generalize (lg_sl [Value.ref h0] ++ List.replicate (nL - (lg_sl [Value.ref h0]).length) Slot.unset).toArray = ls at hl ⊢
  exact body p e s m _ below meth c _ (va_A [(h0, .inr (ci, fs))] s.heap.size) ls ⟨B.exec, B.bytes, hml, hown, hts⟩ hP hK (fun q h => Or.inr h) va_S.rf hl (hD0.self (sz := s.heap.size)) hin (fun u H locs pc ls hd hp hP hK hD hS => W.vret B.exec B.bytes B.returns (fun t ht hW => ⟨⟨u, rfl, hp, by rw [ht]; exact hP, va_K.moved hW.alike hK, hD⟩, hS.F ht⟩) hS.2.2 hd B.notSynchronized)
/-- two array classes of ints are one -/
theorem one_cA {D : va_G} {cl : List vw_C} {a b : ClassId} {U : State} (h1 : va_K D cl [(a, .int)] U) (h2 : va_K D cl [(b, .int)] U) : a = b := by
  have e1 : U.vm.findClass ("[" ++ FieldType.int.toString) = some a := (h1.2 0 _ rfl).2
  have e2 : U.vm.findClass ("[" ++ FieldType.int.toString) = some b := (h2.2 0 _ rfl).2
  exact Option.some.inj (e1.symm.trans e2)
/-- apart -/
def dj (w1 w2 : va_W) : Prop := ∀ (i j : Nat) (p q : Nat × va_E), w1[i]? = some p → w2[j]? = some q → p.1 ≠ q.1
theorem dj.symm {w1 w2 : va_W} (h : dj w1 w2) : dj w2 w1 := fun i j p q h1 h2 e => h j i q p h2 h1 e.symm
theorem dj_nil (w : va_W) : dj w [] := fun i j p q _ h => by simp at h
/-- cells beside a callee's world stay, and stay apart from what comes back -/
theorem beside {A : Nat → Prop} {D : va_G} {w1 w2 w3 : va_W} {H H1 : Heap} (hP2 : va_P D vwCl w2 H) (hj : dj w1 w2) (hk : ∀ q : Nat, q < H.size → ¬ va_A w1 H.size q → H1[q]? = H[q]?) (hD3 : va_D (va_A w1 H.size) w3) (hF : ∀ q : Nat, va_A w1 H.size q → A q) : va_P D vwCl w2 H1 ∧ va_D A w3 ∧ dj w3 w2 := by
  have hno : ∀ (k : Nat) (q : Nat × va_E), w2[k]? = some q → ¬ va_A w1 H.size q.1 := by
    intro k q hq h
    rcases h with ⟨i, e, h⟩ | h
    · exact hj i k (q.1, e) q h hq rfl
    · exact absurd h (Nat.not_le.mpr (hP2 k q hq).lt)
  refine ⟨hP2.kept (fun k q hq => hk _ (hP2 k q hq).lt (hno k q hq)), hD3.weaken (fun _ _ _ h => hF _ h), ?_⟩
  intro i j p q h1 h2 e
  exact hno j q h2 (e ▸ hD3.2 i p h1)
section XL
variable {p : Program} {l : Launch} {e : Env} {R : Room} {s : State} {m : MethodId} {args : Array Value} {below : List Frame} {meth : Method} {c : Code} {H : Heap} {locs : List Loc} {cells slots : Nat} {Q : State → Prop}
variable {pc : Nat} {ls : Array Slot} {rest st0 : List Value} {A : Nat → Prop} {H0 : Heap} {cc : ByteArray} {nL : Nat} {own : String}
variable {y : MethodName} {cd : ByteArray} {maxL : Nat} {ty : FieldType} {rm : Room} {D : va_G} {d : ClassId} {w1 w2 : va_W} {C : String} {index n b ci mc ms : Nat} {fs As : List Value} {T : u_T} {N : Nat}
/-- a call of a public method, beside another world -/
theorem cL {S1 : Type} {post : Int32 → S1 → Prop} {wd : S1 → va_W} (S0 : CallFix p m c cc nL s args lw_all own) (hM : mIO l y cd maxL ty rm (Value.ref b :: As) D d w1 H.size post wd) (cw : CallW R s args own C index y cd maxL (some ty) (ws_ y cd maxL (some ty)) rm 0 0 n) (hK : va_K D vwCl [(d, .int)] s) (hP1 : va_P D vwCl w1 H) (hP2 : va_P D vwCl w2 H) (hD1 : va_D A w1) (hj : dj w1 w2) (hS : va_S A H0 H locs) (hA : ∀ q : Nat, H0.size ≤ q → A q)
    (he : w1[0]? = some (b, .inr (ci, fs))) (hc : vwCl[ci]? = some (C, T, N)) (hn : As.length = n) (hsize : ls.size = nL) (hst : st0 = As.reverse ++ .ref b :: rest) (hW : (rest.map fun v => v.category).sum ≤ 8) (hdg : decode cc pc = .ok (.invokevirtual index, 3)) (hf : cells ≤ R.cells ∧ slots ≤ R.slots)
    (kk : ∀ (r : Int32) (u : S1) (H1 : Heap) (locs1 : List Loc), post r u → va_P D vwCl (wd u) H1 → va_P D vwCl w2 H1 → va_D A (wd u) → dj (wd u) w2 → va_S A H0 H1 locs1 → W p l e R s m args below meth c H1 locs1 cells slots Q (F0 m (pc + 3) ls (.int r :: rest))) : W p l e R s m args below meth c H locs cells slots Q (F0 m pc ls st0) := by
  have hM' : Met l y (ws_ y cd maxL (some ty)) rm (va_Pc (Value.ref b :: As) (fun U => U.heap.size = H.size ∧ va_P D vwCl w1 U.heap ∧ va_K D vwCl [(d, .int)] U ∧ va_D (fun _ => True) w1)) (va_Qi post (fun u t => va_P D vwCl (wd u) t.heap ∧ va_D (va_A w1 H.size) (wd u)) (va_A w1 H.size)) 0 0 (va_A w1 H.size) := hM
  have hF : ∀ q : Nat, va_A w1 H.size q → A q := fun q h => va_A_in hD1 (fun x hx => hA x (Nat.le_trans hS.1 hx)) h
  refine va_calli (va_runV (g := F0 m pc ls st0) (As := As) (rest := rest) S0 hM' cw ⟨fun a U g mk q => ?_, va_recv hK hP1 hc he, fun U hU hW => ⟨rfl, by rw [hU], by rw [hU]; exact hP1, va_K.moved hW.alike hK, hD1.weaken (fun _ _ _ _ => trivial)⟩⟩ rfl hn hsize hst (lv_room hW) hdg hf) hS (fun q _ h => hF q h) hF (fun r u t H1 locs1 ht hvm hp hB hz hk hS1 => ?_)
  · obtain ⟨q0, q1, qP, qK, qD⟩ := q
    exact ⟨q0, q1, qP, va_K.moved (u := U) (U := U.calling g mk a) (Vm.Alike.refl U.vm) qK, qD⟩
  · obtain ⟨hP3, hD3⟩ := hB
    rw [ht] at hP3
    obtain ⟨z1, z2, z3⟩ := beside hP2 hj hk hD3 hF
    exact kk r u H1 locs1 hp hP3 z1 z2 z3 hS1
/-- a constructor's call, beside another world -/
theorem cN {S1 : Type} {post : S1 → Prop} {wd : S1 → va_W} {cA : S1 → ClassId} {tys : List (ClassId × FieldType)} (S0 : CallFix p m c cc nL s args lw_all own) (hM : mNI l y cd maxL rm b D ci fs H.size mc ms post wd cA) (cw : CallB R s args own index y cd maxL none (ws_ y cd maxL none) rm mc ms 0 ∧ y.name = "<init>" ∧ (Cond.instanceMethod y).before args s = true) (hK : va_K D vwCl tys s) (hP1 : va_P D vwCl [(b, .inr (ci, fs))] H) (hP2 : va_P D vwCl w2 H) (hD1 : va_D A [(b, .inr (ci, fs))]) (hj : dj [(b, .inr (ci, fs))] w2) (hS : va_S A H0 H locs) (hA : ∀ q : Nat, H0.size ≤ q → A q)
    (hsize : ls.size = nL) (hst : st0 = .ref b :: rest) (hW : (rest.map fun v => v.category).sum ≤ 8) (hdg : decode cc pc = .ok (.invokespecial index, 3)) (hf : cells + mc ≤ R.cells ∧ slots + ms ≤ R.slots)
    (kk : ∀ (u : S1) (H1 : Heap) (locs1 : List Loc), post u → va_P D vwCl (wd u) H1 → va_K D vwCl [(cA u, .int)] s → va_P D vwCl w2 H1 → va_D A (wd u) → dj (wd u) w2 → va_S A H0 H1 locs1 → W p l e R s m args below meth c H1 locs1 (cells + mc) (slots + ms) Q (F0 m (pc + 3) ls rest)) : W p l e R s m args below meth c H locs cells slots Q (F0 m pc ls st0) := by
  have hM' : Met l y (ws_ y cd maxL none) rm (va_Pc [.ref b] (fun U => U.heap.size = H.size ∧ va_P D vwCl [(b, .inr (ci, fs))] U.heap ∧ va_K D vwCl [] U ∧ va_D (fun _ => True) [(b, .inr (ci, fs))])) (va_Qv post (fun u t => va_P D vwCl (wd u) t.heap ∧ va_K D vwCl [(cA u, .int)] t ∧ va_D (va_A [(b, .inr (ci, fs))] H.size) (wd u)) (va_A [(b, .inr (ci, fs))] H.size)) mc ms (va_A [(b, .inr (ci, fs))] H.size) := hM
  have hF : ∀ q : Nat, va_A [(b, .inr (ci, fs))] H.size q → A q := fun q h => va_A_in hD1 (fun x hx => hA x (Nat.le_trans hS.1 hx)) h
  have hK0 : va_K D vwCl [] s := ⟨hK.1, fun k q h => by simp at h⟩
  refine va_callv (va_runI (g := F0 m pc ls st0) (As := []) (rest := rest) S0 hM' cw ⟨fun a U g mk q => ?_, fun U hU hW => ⟨rfl, by rw [hU], by rw [hU]; exact hP1, va_K.moved hW.alike hK0, hD1.weaken (fun _ _ _ _ => trivial)⟩⟩ rfl rfl hsize hst (lv_room hW) hdg hf) hS (fun q _ h => hF q h) hF (fun u t H1 locs1 ht hvm hp hB hz hk hS1 => ?_)
  · obtain ⟨q0, q1, qP, qK, qD⟩ := q
    exact ⟨q0, q1, qP, va_K.moved (u := U) (U := U.calling g mk a) (Vm.Alike.refl U.vm) qK, qD⟩
  · obtain ⟨hP3, hK3, hD3⟩ := hB
    rw [ht] at hP3
    obtain ⟨z1, z2, z3⟩ := beside hP2 hj hk hD3 hF
    exact kk u H1 locs1 hp hP3 (va_K.moved hvm.symm hK3) z1 z2 z3 hS1
/-- an int of the script -/
theorem xsld (hexec : p.tables.exec = Jvm.exec) (hb : c.code = cc) {b L : Nat} {xs : Nat → Int32} (hX : va_X b L xs s H0) (hbl : b < H0.size) (hbA : ¬ A b) (hS : va_S A H0 H locs) {i : Int32} (j : Nat) (hi : i = nI j) (hj : j < L) (hL : L < 2147483648) (hdg : decode cc pc = .ok (.iaload, 1))
    (kk : W p l e R s m args below meth c H locs cells slots Q (F0 m (pc + 1) ls (.int (xs j) :: rest))) : W p l e R s m args below meth c H locs cells slots Q (F0 m pc ls (.int i :: .ref b :: rest)) := by
  subst hi
  refine va_sld hexec hb hX hbl hbA hS (vp_in_nI hj (by omega)) hdg ?_
  rw [nI_clamp (by omega)]
  exact kk
end XL
theorem pw_step {i : Nat} (h : i < 4) : pw (i + 1) * 7 = pw i := by
  have hi' : i = 0 ∨ i = 1 ∨ i = 2 ∨ i = 3 := by omega
  rcases hi' with rfl | rfl | rfl | rfl <;> rfl
end
section
/-! the two constructors -/
theorem okw_0 : okw (fun _ => 0) := by
  intro i _
  show (-6 : Int) ≤ 0 ∧ (0 : Int) ≤ 6
  decide
theorem upd_pw {f : Nat → Int32} {j : Nat} (h : ∀ q, 4 - j ≤ q → q < 5 → f q = nI (pw q)) (hj : j < 4) (q : Nat) (h1 : 4 - (j + 1) ≤ q) (h2 : q < 5) : upd f (3 - j) (nI (pw (3 - j))) q = nI (pw q) := by
  by_cases e : q = 3 - j
  · subst e
    exact pk_us
  · rw [pk_un e]
    exact h q (by omega) h2
abbrev rX0_init : Room := { frames := 1, cells := 8, slots := 6603, locals := 12 }
set_option maxHeartbeats 4000000 in
set_option maxRecDepth 100000 in
/-- new HilbertBasis() -/
theorem metX0_init {l : Launch} {D : va_G} {h0 hz : Nat} : mNI l yX0_init cX0_init 2 rX0_init h0 D 0 [.null, .null, .null, .null, .null, .null, .null, .null, .int 0, .int 0] hz 8 6603 (S := SB × (Nat → Nat) × ClassId) (fun u => u.2.1 0 = h0 ∧ InvB (fun _ => 0) u.1) (fun u => wSB u.2.1 u.2.2 u.1) (fun u => u.2.2) := by
  refine mNI.ofW (by decide) rfl (Nat.le_of_ble_eq_true rfl) ?_
  intro p e s m args below meth mc Q A ls S hP hK hA hS hl hD hin ret
  have S : CallFix p m mc cX0_init 2 s args lw_all RX0 := S
  have hx := S.1
  have hb := S.2.1
  have hml := S.2.2.1
  have hown := S.2.2.2.1
  have hts := S.2.2.2.2
  refine lv_aload_n hx hb dX0_init_0 rfl (lv_at hl 0 rfl) ?_
  refine W.objInit hx hb hown (hts _ q32) (hts _ q33) (hts _ q34) rfl (by rw [hml]; exact hl.1) rfl dX0_init_1 (Nat.le_of_ble_eq_true rfl) (Nat.le_of_ble_eq_true rfl) ?_
  refine W.eq (g2 := F0 m 4 ls []) rfl ?_
  refine lv_aload_n hx hb dX0_init_4 rfl (lv_at hl 0 rfl) ?_
  refine lv_iconst (v := 5) hx hb dX0_init_5 (by decide) ?_
  refine va_newa (atype := .int) (a0 := (5, .inl (fun _ => 0))) (N' := 5) hx hb (hts _ q66) rfl hK hP hD hS hA (fun _ => rfl) (by decide) (by decide) (by decide) (Nat.le_of_ble_eq_true rfl) (Nat.le_of_ble_eq_true rfl) dX0_init_6 (fun a1 cA H hK1 hP hD hS => ?_)
  obtain ⟨d, rfl⟩ : ∃ z, z = cA := ⟨_, rfl⟩
  have hK : va_K D vwCl [(d, .int)] s := hK1
  have hP : va_P D vwCl [(h0, .inr (0, [.null, .null, .null, .null, .null, .null, .null, .null, .int 0, .int 0])), (a1, .inl (d, 5, .inl (fun _ => 0)))] H := hP
  have hD : va_D A [(h0, .inr (0, [.null, .null, .null, .null, .null, .null, .null, .null, .int 0, .int 0])), (a1, .inl (d, 5, .inl (fun _ => 0)))] := hD
  refine W.widen (k := 1) (n := 5) (Nat.le_of_ble_eq_true rfl) (Nat.le_of_ble_eq_true rfl) ?_
  refine va_putF (D := D) (ci := 0) (v := .ref a1) (ty := .array .int) (C := RX0) (T := TX0) (N := 10) hx hb hts in_X0 tyX0 tyX0_ok nmX0 hown hK hP hD hS 0 rfl rfl 0 (by decide) (hts _ q35) (fun _ h9 => h9) rfl hin rfl (by decide +kernel) rfl rfl (Nat.le_of_ble_eq_true rfl) dX0_init_8 (fun H locs hP hD hS => ?_)
  have hP : va_P D vwCl [(h0, .inr (0, [.ref a1, .null, .null, .null, .null, .null, .null, .null, .int 0, .int 0])), (a1, .inl (d, 5, .inl (fun _ => 0)))] H := hP
  have hD : va_D A [(h0, .inr (0, [.ref a1, .null, .null, .null, .null, .null, .null, .null, .int 0, .int 0])), (a1, .inl (d, 5, .inl (fun _ => 0)))] := hD
  refine lv_aload_n hx hb dX0_init_11 rfl (lv_at hl 0 rfl) ?_
  refine lv_sipush (v := 526) hx hb dX0_init_12 (by decide) ?_
  refine va_newa (atype := .int) (a0 := (526, .inl (fun _ => 0))) (N' := 526) hx hb (hts _ q66) rfl hK hP hD hS hA (fun _ => rfl) (by decide) (by decide) (by decide) (Nat.le_of_ble_eq_true rfl) (Nat.le_of_ble_eq_true rfl) dX0_init_15 (fun a2 cA H hK1 hP hD hS => ?_)
  have hK2 : va_K D vwCl [(cA, .int)] s := hK1.sub [1] rfl
  obtain rfl := one_cA hK2 hK
  obtain ⟨d, rfl⟩ : ∃ z, z = cA := ⟨_, rfl⟩
  have hP : va_P D vwCl [(h0, .inr (0, [.ref a1, .null, .null, .null, .null, .null, .null, .null, .int 0, .int 0])), (a1, .inl (d, 5, .inl (fun _ => 0))), (a2, .inl (d, 526, .inl (fun _ => 0)))] H := hP
  have hD : va_D A [(h0, .inr (0, [.ref a1, .null, .null, .null, .null, .null, .null, .null, .int 0, .int 0])), (a1, .inl (d, 5, .inl (fun _ => 0))), (a2, .inl (d, 526, .inl (fun _ => 0)))] := hD
  refine W.widen (k := 2) (n := 531) (Nat.le_of_ble_eq_true rfl) (Nat.le_of_ble_eq_true rfl) ?_
  refine va_putF (D := D) (ci := 0) (v := .ref a2) (ty := .array .int) (C := RX0) (T := TX0) (N := 10) hx hb hts in_X0 tyX0 tyX0_ok nmX0 hown hK hP hD hS 0 rfl rfl 1 (by decide) (hts _ q36) (fun _ h9 => h9) rfl hin rfl (by decide +kernel) rfl rfl (Nat.le_of_ble_eq_true rfl) dX0_init_17 (fun H locs hP hD hS => ?_)
  have hP : va_P D vwCl [(h0, .inr (0, [.ref a1, .ref a2, .null, .null, .null, .null, .null, .null, .int 0, .int 0])), (a1, .inl (d, 5, .inl (fun _ => 0))), (a2, .inl (d, 526, .inl (fun _ => 0)))] H := hP
  have hD : va_D A [(h0, .inr (0, [.ref a1, .ref a2, .null, .null, .null, .null, .null, .null, .int 0, .int 0])), (a1, .inl (d, 5, .inl (fun _ => 0))), (a2, .inl (d, 526, .inl (fun _ => 0)))] := hD
  refine lv_aload_n hx hb dX0_init_20 rfl (lv_at hl 0 rfl) ?_
  refine lv_sipush (v := 526) hx hb dX0_init_21 (by decide) ?_
  refine va_newa (atype := .int) (a0 := (526, .inl (fun _ => 0))) (N' := 526) hx hb (hts _ q66) rfl hK hP hD hS hA (fun _ => rfl) (by decide) (by decide) (by decide) (Nat.le_of_ble_eq_true rfl) (Nat.le_of_ble_eq_true rfl) dX0_init_24 (fun a3 cA H hK1 hP hD hS => ?_)
  have hK2 : va_K D vwCl [(cA, .int)] s := hK1.sub [1] rfl
  obtain rfl := one_cA hK2 hK
  obtain ⟨d, rfl⟩ : ∃ z, z = cA := ⟨_, rfl⟩
  have hP : va_P D vwCl [(h0, .inr (0, [.ref a1, .ref a2, .null, .null, .null, .null, .null, .null, .int 0, .int 0])), (a1, .inl (d, 5, .inl (fun _ => 0))), (a2, .inl (d, 526, .inl (fun _ => 0))), (a3, .inl (d, 526, .inl (fun _ => 0)))] H := hP
  have hD : va_D A [(h0, .inr (0, [.ref a1, .ref a2, .null, .null, .null, .null, .null, .null, .int 0, .int 0])), (a1, .inl (d, 5, .inl (fun _ => 0))), (a2, .inl (d, 526, .inl (fun _ => 0))), (a3, .inl (d, 526, .inl (fun _ => 0)))] := hD
  refine W.widen (k := 3) (n := 1057) (Nat.le_of_ble_eq_true rfl) (Nat.le_of_ble_eq_true rfl) ?_
  refine va_putF (D := D) (ci := 0) (v := .ref a3) (ty := .array .int) (C := RX0) (T := TX0) (N := 10) hx hb hts in_X0 tyX0 tyX0_ok nmX0 hown hK hP hD hS 0 rfl rfl 2 (by decide) (hts _ q37) (fun _ h9 => h9) rfl hin rfl (by decide +kernel) rfl rfl (Nat.le_of_ble_eq_true rfl) dX0_init_26 (fun H locs hP hD hS => ?_)
  have hP : va_P D vwCl [(h0, .inr (0, [.ref a1, .ref a2, .ref a3, .null, .null, .null, .null, .null, .int 0, .int 0])), (a1, .inl (d, 5, .inl (fun _ => 0))), (a2, .inl (d, 526, .inl (fun _ => 0))), (a3, .inl (d, 526, .inl (fun _ => 0)))] H := hP
  have hD : va_D A [(h0, .inr (0, [.ref a1, .ref a2, .ref a3, .null, .null, .null, .null, .null, .int 0, .int 0])), (a1, .inl (d, 5, .inl (fun _ => 0))), (a2, .inl (d, 526, .inl (fun _ => 0))), (a3, .inl (d, 526, .inl (fun _ => 0)))] := hD
  refine lv_aload_n hx hb dX0_init_29 rfl (lv_at hl 0 rfl) ?_
  refine lv_sipush (v := 400) hx hb dX0_init_30 (by decide) ?_
  refine va_newa (atype := .int) (a0 := (400, .inl (fun _ => 0))) (N' := 400) hx hb (hts _ q66) rfl hK hP hD hS hA (fun _ => rfl) (by decide) (by decide) (by decide) (Nat.le_of_ble_eq_true rfl) (Nat.le_of_ble_eq_true rfl) dX0_init_33 (fun a4 cA H hK1 hP hD hS => ?_)
  have hK2 : va_K D vwCl [(cA, .int)] s := hK1.sub [1] rfl
  obtain rfl := one_cA hK2 hK
  obtain ⟨d, rfl⟩ : ∃ z, z = cA := ⟨_, rfl⟩
  have hP : va_P D vwCl [(h0, .inr (0, [.ref a1, .ref a2, .ref a3, .null, .null, .null, .null, .null, .int 0, .int 0])), (a1, .inl (d, 5, .inl (fun _ => 0))), (a2, .inl (d, 526, .inl (fun _ => 0))), (a3, .inl (d, 526, .inl (fun _ => 0))), (a4, .inl (d, 400, .inl (fun _ => 0)))] H := hP
  have hD : va_D A [(h0, .inr (0, [.ref a1, .ref a2, .ref a3, .null, .null, .null, .null, .null, .int 0, .int 0])), (a1, .inl (d, 5, .inl (fun _ => 0))), (a2, .inl (d, 526, .inl (fun _ => 0))), (a3, .inl (d, 526, .inl (fun _ => 0))), (a4, .inl (d, 400, .inl (fun _ => 0)))] := hD
  refine W.widen (k := 4) (n := 1457) (Nat.le_of_ble_eq_true rfl) (Nat.le_of_ble_eq_true rfl) ?_
  refine va_putF (D := D) (ci := 0) (v := .ref a4) (ty := .array .int) (C := RX0) (T := TX0) (N := 10) hx hb hts in_X0 tyX0 tyX0_ok nmX0 hown hK hP hD hS 0 rfl rfl 3 (by decide) (hts _ q38) (fun _ h9 => h9) rfl hin rfl (by decide +kernel) rfl rfl (Nat.le_of_ble_eq_true rfl) dX0_init_35 (fun H locs hP hD hS => ?_)
  have hP : va_P D vwCl [(h0, .inr (0, [.ref a1, .ref a2, .ref a3, .ref a4, .null, .null, .null, .null, .int 0, .int 0])), (a1, .inl (d, 5, .inl (fun _ => 0))), (a2, .inl (d, 526, .inl (fun _ => 0))), (a3, .inl (d, 526, .inl (fun _ => 0))), (a4, .inl (d, 400, .inl (fun _ => 0)))] H := hP
  have hD : va_D A [(h0, .inr (0, [.ref a1, .ref a2, .ref a3, .ref a4, .null, .null, .null, .null, .int 0, .int 0])), (a1, .inl (d, 5, .inl (fun _ => 0))), (a2, .inl (d, 526, .inl (fun _ => 0))), (a3, .inl (d, 526, .inl (fun _ => 0))), (a4, .inl (d, 400, .inl (fun _ => 0)))] := hD
  refine lv_aload_n hx hb dX0_init_38 rfl (lv_at hl 0 rfl) ?_
  refine lv_iconst (v := 5) hx hb dX0_init_39 (by decide) ?_
  refine va_newa (atype := .int) (a0 := (5, .inl (fun _ => 0))) (N' := 5) hx hb (hts _ q66) rfl hK hP hD hS hA (fun _ => rfl) (by decide) (by decide) (by decide) (Nat.le_of_ble_eq_true rfl) (Nat.le_of_ble_eq_true rfl) dX0_init_40 (fun a5 cA H hK1 hP hD hS => ?_)
  have hK2 : va_K D vwCl [(cA, .int)] s := hK1.sub [1] rfl
  obtain rfl := one_cA hK2 hK
  obtain ⟨d, rfl⟩ : ∃ z, z = cA := ⟨_, rfl⟩
  have hP : va_P D vwCl [(h0, .inr (0, [.ref a1, .ref a2, .ref a3, .ref a4, .null, .null, .null, .null, .int 0, .int 0])), (a1, .inl (d, 5, .inl (fun _ => 0))), (a2, .inl (d, 526, .inl (fun _ => 0))), (a3, .inl (d, 526, .inl (fun _ => 0))), (a4, .inl (d, 400, .inl (fun _ => 0))), (a5, .inl (d, 5, .inl (fun _ => 0)))] H := hP
  have hD : va_D A [(h0, .inr (0, [.ref a1, .ref a2, .ref a3, .ref a4, .null, .null, .null, .null, .int 0, .int 0])), (a1, .inl (d, 5, .inl (fun _ => 0))), (a2, .inl (d, 526, .inl (fun _ => 0))), (a3, .inl (d, 526, .inl (fun _ => 0))), (a4, .inl (d, 400, .inl (fun _ => 0))), (a5, .inl (d, 5, .inl (fun _ => 0)))] := hD
  refine W.widen (k := 5) (n := 1462) (Nat.le_of_ble_eq_true rfl) (Nat.le_of_ble_eq_true rfl) ?_
  refine va_putF (D := D) (ci := 0) (v := .ref a5) (ty := .array .int) (C := RX0) (T := TX0) (N := 10) hx hb hts in_X0 tyX0 tyX0_ok nmX0 hown hK hP hD hS 0 rfl rfl 4 (by decide) (hts _ q39) (fun _ h9 => h9) rfl hin rfl (by decide +kernel) rfl rfl (Nat.le_of_ble_eq_true rfl) dX0_init_42 (fun H locs hP hD hS => ?_)
  have hP : va_P D vwCl [(h0, .inr (0, [.ref a1, .ref a2, .ref a3, .ref a4, .ref a5, .null, .null, .null, .int 0, .int 0])), (a1, .inl (d, 5, .inl (fun _ => 0))), (a2, .inl (d, 526, .inl (fun _ => 0))), (a3, .inl (d, 526, .inl (fun _ => 0))), (a4, .inl (d, 400, .inl (fun _ => 0))), (a5, .inl (d, 5, .inl (fun _ => 0)))] H := hP
  have hD : va_D A [(h0, .inr (0, [.ref a1, .ref a2, .ref a3, .ref a4, .ref a5, .null, .null, .null, .int 0, .int 0])), (a1, .inl (d, 5, .inl (fun _ => 0))), (a2, .inl (d, 526, .inl (fun _ => 0))), (a3, .inl (d, 526, .inl (fun _ => 0))), (a4, .inl (d, 400, .inl (fun _ => 0))), (a5, .inl (d, 5, .inl (fun _ => 0)))] := hD
  refine lv_aload_n hx hb dX0_init_45 rfl (lv_at hl 0 rfl) ?_
  refine lv_sipush (v := 5061) hx hb dX0_init_46 (by decide) ?_
  refine va_newa (atype := .int) (a0 := (5061, .inl (fun _ => 0))) (N' := 5061) hx hb (hts _ q66) rfl hK hP hD hS hA (fun _ => rfl) (by decide) (by decide) (by decide) (Nat.le_of_ble_eq_true rfl) (Nat.le_of_ble_eq_true rfl) dX0_init_49 (fun a6 cA H hK1 hP hD hS => ?_)
  have hK2 : va_K D vwCl [(cA, .int)] s := hK1.sub [1] rfl
  obtain rfl := one_cA hK2 hK
  obtain ⟨d, rfl⟩ : ∃ z, z = cA := ⟨_, rfl⟩
  have hP : va_P D vwCl [(h0, .inr (0, [.ref a1, .ref a2, .ref a3, .ref a4, .ref a5, .null, .null, .null, .int 0, .int 0])), (a1, .inl (d, 5, .inl (fun _ => 0))), (a2, .inl (d, 526, .inl (fun _ => 0))), (a3, .inl (d, 526, .inl (fun _ => 0))), (a4, .inl (d, 400, .inl (fun _ => 0))), (a5, .inl (d, 5, .inl (fun _ => 0))), (a6, .inl (d, 5061, .inl (fun _ => 0)))] H := hP
  have hD : va_D A [(h0, .inr (0, [.ref a1, .ref a2, .ref a3, .ref a4, .ref a5, .null, .null, .null, .int 0, .int 0])), (a1, .inl (d, 5, .inl (fun _ => 0))), (a2, .inl (d, 526, .inl (fun _ => 0))), (a3, .inl (d, 526, .inl (fun _ => 0))), (a4, .inl (d, 400, .inl (fun _ => 0))), (a5, .inl (d, 5, .inl (fun _ => 0))), (a6, .inl (d, 5061, .inl (fun _ => 0)))] := hD
  refine W.widen (k := 6) (n := 6523) (Nat.le_of_ble_eq_true rfl) (Nat.le_of_ble_eq_true rfl) ?_
  refine va_putF (D := D) (ci := 0) (v := .ref a6) (ty := .array .int) (C := RX0) (T := TX0) (N := 10) hx hb hts in_X0 tyX0 tyX0_ok nmX0 hown hK hP hD hS 0 rfl rfl 5 (by decide) (hts _ q40) (fun _ h9 => h9) rfl hin rfl (by decide +kernel) rfl rfl (Nat.le_of_ble_eq_true rfl) dX0_init_51 (fun H locs hP hD hS => ?_)
  have hP : va_P D vwCl [(h0, .inr (0, [.ref a1, .ref a2, .ref a3, .ref a4, .ref a5, .ref a6, .null, .null, .int 0, .int 0])), (a1, .inl (d, 5, .inl (fun _ => 0))), (a2, .inl (d, 526, .inl (fun _ => 0))), (a3, .inl (d, 526, .inl (fun _ => 0))), (a4, .inl (d, 400, .inl (fun _ => 0))), (a5, .inl (d, 5, .inl (fun _ => 0))), (a6, .inl (d, 5061, .inl (fun _ => 0)))] H := hP
  have hD : va_D A [(h0, .inr (0, [.ref a1, .ref a2, .ref a3, .ref a4, .ref a5, .ref a6, .null, .null, .int 0, .int 0])), (a1, .inl (d, 5, .inl (fun _ => 0))), (a2, .inl (d, 526, .inl (fun _ => 0))), (a3, .inl (d, 526, .inl (fun _ => 0))), (a4, .inl (d, 400, .inl (fun _ => 0))), (a5, .inl (d, 5, .inl (fun _ => 0))), (a6, .inl (d, 5061, .inl (fun _ => 0)))] := hD
  refine lv_aload_n hx hb dX0_init_54 rfl (lv_at hl 0 rfl) ?_
  refine lv_bipush (v := 40) hx hb dX0_init_55 (by decide) ?_
  refine va_newa (atype := .int) (a0 := (40, .inl (fun _ => 0))) (N' := 40) hx hb (hts _ q66) rfl hK hP hD hS hA (fun _ => rfl) (by decide) (by decide) (by decide) (Nat.le_of_ble_eq_true rfl) (Nat.le_of_ble_eq_true rfl) dX0_init_57 (fun a7 cA H hK1 hP hD hS => ?_)
  have hK2 : va_K D vwCl [(cA, .int)] s := hK1.sub [1] rfl
  obtain rfl := one_cA hK2 hK
  obtain ⟨d, rfl⟩ : ∃ z, z = cA := ⟨_, rfl⟩
  have hP : va_P D vwCl [(h0, .inr (0, [.ref a1, .ref a2, .ref a3, .ref a4, .ref a5, .ref a6, .null, .null, .int 0, .int 0])), (a1, .inl (d, 5, .inl (fun _ => 0))), (a2, .inl (d, 526, .inl (fun _ => 0))), (a3, .inl (d, 526, .inl (fun _ => 0))), (a4, .inl (d, 400, .inl (fun _ => 0))), (a5, .inl (d, 5, .inl (fun _ => 0))), (a6, .inl (d, 5061, .inl (fun _ => 0))), (a7, .inl (d, 40, .inl (fun _ => 0)))] H := hP
  have hD : va_D A [(h0, .inr (0, [.ref a1, .ref a2, .ref a3, .ref a4, .ref a5, .ref a6, .null, .null, .int 0, .int 0])), (a1, .inl (d, 5, .inl (fun _ => 0))), (a2, .inl (d, 526, .inl (fun _ => 0))), (a3, .inl (d, 526, .inl (fun _ => 0))), (a4, .inl (d, 400, .inl (fun _ => 0))), (a5, .inl (d, 5, .inl (fun _ => 0))), (a6, .inl (d, 5061, .inl (fun _ => 0))), (a7, .inl (d, 40, .inl (fun _ => 0)))] := hD
  refine W.widen (k := 7) (n := 6563) (Nat.le_of_ble_eq_true rfl) (Nat.le_of_ble_eq_true rfl) ?_
  refine va_putF (D := D) (ci := 0) (v := .ref a7) (ty := .array .int) (C := RX0) (T := TX0) (N := 10) hx hb hts in_X0 tyX0 tyX0_ok nmX0 hown hK hP hD hS 0 rfl rfl 6 (by decide) (hts _ q41) (fun _ h9 => h9) rfl hin rfl (by decide +kernel) rfl rfl (Nat.le_of_ble_eq_true rfl) dX0_init_59 (fun H locs hP hD hS => ?_)
  have hP : va_P D vwCl [(h0, .inr (0, [.ref a1, .ref a2, .ref a3, .ref a4, .ref a5, .ref a6, .ref a7, .null, .int 0, .int 0])), (a1, .inl (d, 5, .inl (fun _ => 0))), (a2, .inl (d, 526, .inl (fun _ => 0))), (a3, .inl (d, 526, .inl (fun _ => 0))), (a4, .inl (d, 400, .inl (fun _ => 0))), (a5, .inl (d, 5, .inl (fun _ => 0))), (a6, .inl (d, 5061, .inl (fun _ => 0))), (a7, .inl (d, 40, .inl (fun _ => 0)))] H := hP
  have hD : va_D A [(h0, .inr (0, [.ref a1, .ref a2, .ref a3, .ref a4, .ref a5, .ref a6, .ref a7, .null, .int 0, .int 0])), (a1, .inl (d, 5, .inl (fun _ => 0))), (a2, .inl (d, 526, .inl (fun _ => 0))), (a3, .inl (d, 526, .inl (fun _ => 0))), (a4, .inl (d, 400, .inl (fun _ => 0))), (a5, .inl (d, 5, .inl (fun _ => 0))), (a6, .inl (d, 5061, .inl (fun _ => 0))), (a7, .inl (d, 40, .inl (fun _ => 0)))] := hD
  refine lv_aload_n hx hb dX0_init_62 rfl (lv_at hl 0 rfl) ?_
  refine lv_bipush (v := 40) hx hb dX0_init_63 (by decide) ?_
  refine va_newa (atype := .int) (a0 := (40, .inl (fun _ => 0))) (N' := 40) hx hb (hts _ q66) rfl hK hP hD hS hA (fun _ => rfl) (by decide) (by decide) (by decide) (Nat.le_of_ble_eq_true rfl) (Nat.le_of_ble_eq_true rfl) dX0_init_65 (fun a8 cA H hK1 hP hD hS => ?_)
  have hK2 : va_K D vwCl [(cA, .int)] s := hK1.sub [1] rfl
  obtain rfl := one_cA hK2 hK
  obtain ⟨d, rfl⟩ : ∃ z, z = cA := ⟨_, rfl⟩
  have hP : va_P D vwCl [(h0, .inr (0, [.ref a1, .ref a2, .ref a3, .ref a4, .ref a5, .ref a6, .ref a7, .null, .int 0, .int 0])), (a1, .inl (d, 5, .inl (fun _ => 0))), (a2, .inl (d, 526, .inl (fun _ => 0))), (a3, .inl (d, 526, .inl (fun _ => 0))), (a4, .inl (d, 400, .inl (fun _ => 0))), (a5, .inl (d, 5, .inl (fun _ => 0))), (a6, .inl (d, 5061, .inl (fun _ => 0))), (a7, .inl (d, 40, .inl (fun _ => 0))), (a8, .inl (d, 40, .inl (fun _ => 0)))] H := hP
  have hD : va_D A [(h0, .inr (0, [.ref a1, .ref a2, .ref a3, .ref a4, .ref a5, .ref a6, .ref a7, .null, .int 0, .int 0])), (a1, .inl (d, 5, .inl (fun _ => 0))), (a2, .inl (d, 526, .inl (fun _ => 0))), (a3, .inl (d, 526, .inl (fun _ => 0))), (a4, .inl (d, 400, .inl (fun _ => 0))), (a5, .inl (d, 5, .inl (fun _ => 0))), (a6, .inl (d, 5061, .inl (fun _ => 0))), (a7, .inl (d, 40, .inl (fun _ => 0))), (a8, .inl (d, 40, .inl (fun _ => 0)))] := hD
  refine W.widen (k := 8) (n := 6603) (Nat.le_of_ble_eq_true rfl) (Nat.le_of_ble_eq_true rfl) ?_
  refine va_putF (D := D) (ci := 0) (v := .ref a8) (ty := .array .int) (C := RX0) (T := TX0) (N := 10) hx hb hts in_X0 tyX0 tyX0_ok nmX0 hown hK hP hD hS 0 rfl rfl 7 (by decide) (hts _ q42) (fun _ h9 => h9) rfl hin rfl (by decide +kernel) rfl rfl (Nat.le_of_ble_eq_true rfl) dX0_init_67 (fun H locs hP hD hS => ?_)
  have hP : va_P D vwCl [(h0, .inr (0, [.ref a1, .ref a2, .ref a3, .ref a4, .ref a5, .ref a6, .ref a7, .ref a8, .int 0, .int 0])), (a1, .inl (d, 5, .inl (fun _ => 0))), (a2, .inl (d, 526, .inl (fun _ => 0))), (a3, .inl (d, 526, .inl (fun _ => 0))), (a4, .inl (d, 400, .inl (fun _ => 0))), (a5, .inl (d, 5, .inl (fun _ => 0))), (a6, .inl (d, 5061, .inl (fun _ => 0))), (a7, .inl (d, 40, .inl (fun _ => 0))), (a8, .inl (d, 40, .inl (fun _ => 0)))] H := hP
  have hD : va_D A [(h0, .inr (0, [.ref a1, .ref a2, .ref a3, .ref a4, .ref a5, .ref a6, .ref a7, .ref a8, .int 0, .int 0])), (a1, .inl (d, 5, .inl (fun _ => 0))), (a2, .inl (d, 526, .inl (fun _ => 0))), (a3, .inl (d, 526, .inl (fun _ => 0))), (a4, .inl (d, 400, .inl (fun _ => 0))), (a5, .inl (d, 5, .inl (fun _ => 0))), (a6, .inl (d, 5061, .inl (fun _ => 0))), (a7, .inl (d, 40, .inl (fun _ => 0))), (a8, .inl (d, 40, .inl (fun _ => 0)))] := hD
  obtain ⟨g, e0, e1, e2, e3, e4, e5, e6, e7, e8⟩ : ∃ g : Nat → Nat, g 0 = h0 ∧ g 1 = a1 ∧ g 2 = a2 ∧ g 3 = a3 ∧ g 4 = a4 ∧ g 5 = a5 ∧ g 6 = a6 ∧ g 7 = a7 ∧ g 8 = a8 := ⟨fun k => [h0, a1, a2, a3, a4, a5, a6, a7, a8].getD k 0, rfl, rfl, rfl, rfl, rfl, rfl, rfl, rfl, rfl⟩
  subst e0
  subst e1
  subst e2
  subst e3
  subst e4
  subst e5
  subst e6
  subst e7
  subst e8
  have hP : va_P D vwCl (wB g d (fun _ => 0) (fun _ => 0) (fun _ => 0) (fun _ => 0) (fun _ => 0) (fun _ => 0) (fun _ => 0) (fun _ => 0) 0 0) H := hP.sub [0, 1, 2, 3, 4, 5, 6, 7, 8] rfl
  have hD : va_D A (wB g d (fun _ => 0) (fun _ => 0) (fun _ => 0) (fun _ => 0) (fun _ => 0) (fun _ => 0) (fun _ => 0) (fun _ => 0) 0 0) := hD.sub [0, 1, 2, 3, 4, 5, 6, 7, 8] (by decide) rfl
  have hl : lv_has ls 2 [(0, .ref (g 0))] := hl
  have lp : ∀ (k : Nat) (j : Nat) (tp : Nat → Int32) (H : Heap) (locs : List Loc) (ls : Array Slot), 4 - j < k → j ≤ 4 → (∀ q, 4 - j ≤ q → q < 5 → tp q = nI (pw q)) → va_P D vwCl (wB g d (fun _ => 0) (fun _ => 0) (fun _ => 0) (fun _ => 0) tp (fun _ => 0) (fun _ => 0) (fun _ => 0) 0 0) H → va_D A (wB g d (fun _ => 0) (fun _ => 0) (fun _ => 0) (fun _ => 0) tp (fun _ => 0) (fun _ => 0) (fun _ => 0) 0 0) → va_S A s.heap H locs → lv_has ls 2 [(0, .ref (g 0)), (1, .int (iI (3 - (j : Int))))] → W p l e rX0_init s m args below meth mc H locs 8 6603 Q (F0 m 79 ls []) := by
    intro k
    induction k with
    | zero =>
      intro j tp H locs ls hk
      exact absurd hk (Nat.not_lt_zero _)
    | succ k ih =>
      intro j tp H locs ls hk hj hT hP hD hS hl
      refine lv_iload_n hx hb dX0_init_79 rfl (lv_at hl 1 rfl) ?_
      refine z0_lt (X := (3 - (j : Int))) (tgt := 106) hx hb dX0_init_80 (by decide) (iI_toInt (by omega) (by omega)) (fun hc => ?_) (fun hc => ?_)
      · exact ret ((fun _ => 0, fun _ => 0, fun _ => 0, fun _ => 0, tp, fun _ => 0, fun _ => 0, fun _ => 0, 0, 0), g, d) _ _ _ _ dX0_init_106 ⟨rfl, okw_0, fun _ _ => rfl, fun k hk => hT k (by omega) hk, Or.inl rfl⟩ hP hK hD hS
      · refine lv_aload_n hx hb dX0_init_83 rfl (lv_at hl 0 rfl) ?_
        refine va_get (D := D) (ci := 0) (v := .ref (g 5)) (C := RX0) (T := TX0) (N := 10) hx hb hts in_X0 hown hK hP 0 rfl rfl 4 (by decide) (hts _ q39) (fun _ h9 => h9) rfl dX0_init_84 ?_
        refine lv_iload_n hx hb dX0_init_87 rfl (lv_at hl 1 rfl) ?_
        refine tpi (y := nI (3 - j)) (by rw [nI_iI]; congr 1; omega) ?_
        refine lv_aload_n hx hb dX0_init_88 rfl (lv_at hl 0 rfl) ?_
        refine va_get (D := D) (ci := 0) (v := .ref (g 5)) (C := RX0) (T := TX0) (N := 10) hx hb hts in_X0 hown hK hP 0 rfl rfl 4 (by decide) (hts _ q39) (fun _ h9 => h9) rfl dX0_init_89 ?_
        refine lv_iload_n hx hb dX0_init_92 rfl (lv_at hl 1 rfl) ?_
        refine tpi (y := nI (3 - j)) (by rw [nI_iI]; congr 1; omega) ?_
        refine lv_iconst (v := 1) hx hb dX0_init_93 (by decide) ?_
        refine lv_iadd hx hb dX0_init_94 ?_
        refine tpi (y := nI (3 - j + 1)) (nI_1 _) ?_
        refine xald hx hb hK hP 5 0 rfl rfl (3 - j + 1) (rfl) (by omega) (by decide) dX0_init_95 ?_
        refine tpi (y := nI (pw (3 - j + 1))) (hT _ (by omega) (by omega)) ?_
        refine lv_bipush (v := 7) hx hb dX0_init_96 (by decide) ?_
        refine lv_imul hx hb dX0_init_98 ?_
        refine tpi (y := nI (pw (3 - j))) (by rw [show (7 : Int32) = nI 7 from rfl, pk_mul, pw_step (by omega)]) ?_
        refine xast (x := nI (pw (3 - j))) hx hb hK hP hD hS 5 0 rfl rfl (3 - j) (rfl) (by omega) (by decide) dX0_init_99 (fun H locs hP hD hS => ?_)
        have hP : va_P D vwCl (wB g d (fun _ => 0) (fun _ => 0) (fun _ => 0) (fun _ => 0) (upd tp (3 - j) (nI (pw (3 - j)))) (fun _ => 0) (fun _ => 0) (fun _ => 0) 0 0) H := hP
        have hD : va_D A (wB g d (fun _ => 0) (fun _ => 0) (fun _ => 0) (fun _ => 0) (upd tp (3 - j) (nI (pw (3 - j)))) (fun _ => 0) (fun _ => 0) (fun _ => 0) 0 0) := hD
        refine lv_iinc (v := iI (3 - ((j + 1 : Nat) : Int))) (lv' := [(1, .int (iI (3 - ((j + 1 : Nat) : Int)))), (0, .ref (g 0))]) hx hb dX0_init_100 hl (k := 1) rfl (by rw [show Int32.ofInt (-1) = iI (-1) from rfl, iI_add]; congr 1; omega) (by decide) rfl (fun ls hl => ?_)
        refine lv_goto (tgt := 79) hx hb dX0_init_103 (by decide) ?_
        exact ih (j + 1) (upd tp (3 - j) (nI (pw (3 - j)))) _ _ _ (by omega) (by omega) (fun q h1 h2 => upd_pw hT (by omega) q h1 h2) hP hD hS (lv_sub hl [1, 0] rfl)
  refine lv_aload_n hx hb dX0_init_70 rfl (lv_at hl 0 rfl) ?_
  refine va_get (D := D) (ci := 0) (v := .ref (g 5)) (C := RX0) (T := TX0) (N := 10) hx hb hts in_X0 hown hK hP 0 rfl rfl 4 (by decide) (hts _ q39) (fun _ h9 => h9) rfl dX0_init_71 ?_
  refine lv_iconst (v := 4) hx hb dX0_init_74 (by decide) ?_
  refine lv_iconst (v := 1) hx hb dX0_init_75 (by decide) ?_
  refine xast (x := 1) hx hb hK hP hD hS 5 0 rfl rfl (4) (rfl) (by decide) (by decide) dX0_init_76 (fun H locs hP hD hS => ?_)
  have hP : va_P D vwCl (wB g d (fun _ => 0) (fun _ => 0) (fun _ => 0) (fun _ => 0) (upd (fun _ => 0) 4 1) (fun _ => 0) (fun _ => 0) (fun _ => 0) 0 0) H := hP
  have hD : va_D A (wB g d (fun _ => 0) (fun _ => 0) (fun _ => 0) (fun _ => 0) (upd (fun _ => 0) 4 1) (fun _ => 0) (fun _ => 0) (fun _ => 0) 0 0) := hD
  refine lv_iconst (v := 3) hx hb dX0_init_77 (by decide) ?_
  refine tpi (y := iI (3 - ((0 : Nat) : Int))) (rfl) ?_
  refine lv_istore_n (lv' := [(1, .int (iI (3 - ((0 : Nat) : Int)))), (0, .ref (g 0))]) hx hb dX0_init_78 rfl hl (by decide) rfl (fun ls hl => ?_)
  exact lp _ 0 (upd (fun _ => 0) 4 1) _ _ _ (Nat.lt_succ_self _) (by omega) (fun q h1 h2 => by obtain rfl : q = 4 := (by omega); exact pk_us) hP hD hS (lv_sub hl [1, 0] rfl)
abbrev rX1_init : Room := { frames := 1, cells := 4, slots := 35619, locals := 12 }
set_option maxHeartbeats 4000000 in
set_option maxRecDepth 100000 in
/-- new HilbertBasisModel() -/
theorem metX1_init {l : Launch} {D : va_G} {h0 hz : Nat} : mNI l yX1_init cX1_init 1 rX1_init h0 D 1 [.null, .int 0, .int 0, .int 0, .null, .null, .null] hz 4 35619 (S := SM × (Nat → Nat) × ClassId) (fun u => u.2.1 0 = h0 ∧ InvM (fun _ => 0) u.1) (fun u => wSM u.2.1 u.2.2 u.1) (fun u => u.2.2) := by
  refine mNI.ofW (by decide) rfl (Nat.le_of_ble_eq_true rfl) ?_
  intro p e s m args below meth mc Q A ls S hP hK hA hS hl hD hin ret
  have S : CallFix p m mc cX1_init 1 s args lw_all RX1 := S
  have hx := S.1
  have hb := S.2.1
  have hml := S.2.2.1
  have hown := S.2.2.2.1
  have hts := S.2.2.2.2
  refine lv_aload_n hx hb dX1_init_0 rfl (lv_at hl 0 rfl) ?_
  refine W.objInit hx hb hown (hts _ q186) (hts _ q33) (hts _ q34) rfl (by rw [hml]; exact hl.1) rfl dX1_init_1 (Nat.le_of_ble_eq_true rfl) (Nat.le_of_ble_eq_true rfl) ?_
  refine W.eq (g2 := F0 m 4 ls []) rfl ?_
  refine lv_aload_n hx hb dX1_init_4 rfl (lv_at hl 0 rfl) ?_
  refine lv_iconst (v := 5) hx hb dX1_init_5 (by decide) ?_
  refine va_newa (atype := .int) (a0 := (5, .inl (fun _ => 0))) (N' := 5) hx hb (hts _ q66) rfl hK hP hD hS hA (fun _ => rfl) (by decide) (by decide) (by decide) (Nat.le_of_ble_eq_true rfl) (Nat.le_of_ble_eq_true rfl) dX1_init_6 (fun a1 cA H hK1 hP hD hS => ?_)
  obtain ⟨d, rfl⟩ : ∃ z, z = cA := ⟨_, rfl⟩
  have hK : va_K D vwCl [(d, .int)] s := hK1
  have hP : va_P D vwCl [(h0, .inr (1, [.null, .int 0, .int 0, .int 0, .null, .null, .null])), (a1, .inl (d, 5, .inl (fun _ => 0)))] H := hP
  have hD : va_D A [(h0, .inr (1, [.null, .int 0, .int 0, .int 0, .null, .null, .null])), (a1, .inl (d, 5, .inl (fun _ => 0)))] := hD
  refine W.widen (k := 1) (n := 5) (Nat.le_of_ble_eq_true rfl) (Nat.le_of_ble_eq_true rfl) ?_
  refine va_put (D := D) (ci := 1) (v := .ref a1) (ty := .array .int) (C := RX1) (T := TX1) (N := 7) hx hb hts in_X1 tyX1 tyX1_ok nmX1 hown hK hP hD hS 0 rfl rfl 0 (by decide) (hts _ q187) (fun _ h9 => h9) rfl (by decide +kernel) rfl rfl (Nat.le_of_ble_eq_true rfl) dX1_init_8 (fun H locs hP hD hS => ?_)
  have hP : va_P D vwCl [(h0, .inr (1, [.ref a1, .int 0, .int 0, .int 0, .null, .null, .null])), (a1, .inl (d, 5, .inl (fun _ => 0)))] H := hP
  have hD : va_D A [(h0, .inr (1, [.ref a1, .int 0, .int 0, .int 0, .null, .null, .null])), (a1, .inl (d, 5, .inl (fun _ => 0)))] := hD
  refine lv_aload_n hx hb dX1_init_11 rfl (lv_at hl 0 rfl) ?_
  refine lv_sipush (v := 2000) hx hb dX1_init_12 (by decide) ?_
  refine va_newa (atype := .int) (a0 := (2000, .inl (fun _ => 0))) (N' := 2000) hx hb (hts _ q66) rfl hK hP hD hS hA (fun _ => rfl) (by decide) (by decide) (by decide) (Nat.le_of_ble_eq_true rfl) (Nat.le_of_ble_eq_true rfl) dX1_init_15 (fun a2 cA H hK1 hP hD hS => ?_)
  have hK2 : va_K D vwCl [(cA, .int)] s := hK1.sub [1] rfl
  obtain rfl := one_cA hK2 hK
  obtain ⟨d, rfl⟩ : ∃ z, z = cA := ⟨_, rfl⟩
  have hP : va_P D vwCl [(h0, .inr (1, [.ref a1, .int 0, .int 0, .int 0, .null, .null, .null])), (a1, .inl (d, 5, .inl (fun _ => 0))), (a2, .inl (d, 2000, .inl (fun _ => 0)))] H := hP
  have hD : va_D A [(h0, .inr (1, [.ref a1, .int 0, .int 0, .int 0, .null, .null, .null])), (a1, .inl (d, 5, .inl (fun _ => 0))), (a2, .inl (d, 2000, .inl (fun _ => 0)))] := hD
  refine W.widen (k := 2) (n := 2005) (Nat.le_of_ble_eq_true rfl) (Nat.le_of_ble_eq_true rfl) ?_
  refine va_put (D := D) (ci := 1) (v := .ref a2) (ty := .array .int) (C := RX1) (T := TX1) (N := 7) hx hb hts in_X1 tyX1 tyX1_ok nmX1 hown hK hP hD hS 0 rfl rfl 4 (by decide) (hts _ q191) (fun _ h9 => h9) rfl (by decide +kernel) rfl rfl (Nat.le_of_ble_eq_true rfl) dX1_init_17 (fun H locs hP hD hS => ?_)
  have hP : va_P D vwCl [(h0, .inr (1, [.ref a1, .int 0, .int 0, .int 0, .ref a2, .null, .null])), (a1, .inl (d, 5, .inl (fun _ => 0))), (a2, .inl (d, 2000, .inl (fun _ => 0)))] H := hP
  have hD : va_D A [(h0, .inr (1, [.ref a1, .int 0, .int 0, .int 0, .ref a2, .null, .null])), (a1, .inl (d, 5, .inl (fun _ => 0))), (a2, .inl (d, 2000, .inl (fun _ => 0)))] := hD
  refine lv_aload_n hx hb dX1_init_20 rfl (lv_at hl 0 rfl) ?_
  refine lv_sipush (v := 16807) hx hb dX1_init_21 (by decide) ?_
  refine va_newa (atype := .int) (a0 := (16807, .inl (fun _ => 0))) (N' := 16807) hx hb (hts _ q66) rfl hK hP hD hS hA (fun _ => rfl) (by decide) (by decide) (by decide) (Nat.le_of_ble_eq_true rfl) (Nat.le_of_ble_eq_true rfl) dX1_init_24 (fun a3 cA H hK1 hP hD hS => ?_)
  have hK2 : va_K D vwCl [(cA, .int)] s := hK1.sub [1] rfl
  obtain rfl := one_cA hK2 hK
  obtain ⟨d, rfl⟩ : ∃ z, z = cA := ⟨_, rfl⟩
  have hP : va_P D vwCl [(h0, .inr (1, [.ref a1, .int 0, .int 0, .int 0, .ref a2, .null, .null])), (a1, .inl (d, 5, .inl (fun _ => 0))), (a2, .inl (d, 2000, .inl (fun _ => 0))), (a3, .inl (d, 16807, .inl (fun _ => 0)))] H := hP
  have hD : va_D A [(h0, .inr (1, [.ref a1, .int 0, .int 0, .int 0, .ref a2, .null, .null])), (a1, .inl (d, 5, .inl (fun _ => 0))), (a2, .inl (d, 2000, .inl (fun _ => 0))), (a3, .inl (d, 16807, .inl (fun _ => 0)))] := hD
  refine W.widen (k := 3) (n := 18812) (Nat.le_of_ble_eq_true rfl) (Nat.le_of_ble_eq_true rfl) ?_
  refine va_put (D := D) (ci := 1) (v := .ref a3) (ty := .array .int) (C := RX1) (T := TX1) (N := 7) hx hb hts in_X1 tyX1 tyX1_ok nmX1 hown hK hP hD hS 0 rfl rfl 5 (by decide) (hts _ q192) (fun _ h9 => h9) rfl (by decide +kernel) rfl rfl (Nat.le_of_ble_eq_true rfl) dX1_init_26 (fun H locs hP hD hS => ?_)
  have hP : va_P D vwCl [(h0, .inr (1, [.ref a1, .int 0, .int 0, .int 0, .ref a2, .ref a3, .null])), (a1, .inl (d, 5, .inl (fun _ => 0))), (a2, .inl (d, 2000, .inl (fun _ => 0))), (a3, .inl (d, 16807, .inl (fun _ => 0)))] H := hP
  have hD : va_D A [(h0, .inr (1, [.ref a1, .int 0, .int 0, .int 0, .ref a2, .ref a3, .null])), (a1, .inl (d, 5, .inl (fun _ => 0))), (a2, .inl (d, 2000, .inl (fun _ => 0))), (a3, .inl (d, 16807, .inl (fun _ => 0)))] := hD
  refine lv_aload_n hx hb dX1_init_29 rfl (lv_at hl 0 rfl) ?_
  refine lv_sipush (v := 16807) hx hb dX1_init_30 (by decide) ?_
  refine va_newa (atype := .int) (a0 := (16807, .inl (fun _ => 0))) (N' := 16807) hx hb (hts _ q66) rfl hK hP hD hS hA (fun _ => rfl) (by decide) (by decide) (by decide) (Nat.le_of_ble_eq_true rfl) (Nat.le_of_ble_eq_true rfl) dX1_init_33 (fun a4 cA H hK1 hP hD hS => ?_)
  have hK2 : va_K D vwCl [(cA, .int)] s := hK1.sub [1] rfl
  obtain rfl := one_cA hK2 hK
  obtain ⟨d, rfl⟩ : ∃ z, z = cA := ⟨_, rfl⟩
  have hP : va_P D vwCl [(h0, .inr (1, [.ref a1, .int 0, .int 0, .int 0, .ref a2, .ref a3, .null])), (a1, .inl (d, 5, .inl (fun _ => 0))), (a2, .inl (d, 2000, .inl (fun _ => 0))), (a3, .inl (d, 16807, .inl (fun _ => 0))), (a4, .inl (d, 16807, .inl (fun _ => 0)))] H := hP
  have hD : va_D A [(h0, .inr (1, [.ref a1, .int 0, .int 0, .int 0, .ref a2, .ref a3, .null])), (a1, .inl (d, 5, .inl (fun _ => 0))), (a2, .inl (d, 2000, .inl (fun _ => 0))), (a3, .inl (d, 16807, .inl (fun _ => 0))), (a4, .inl (d, 16807, .inl (fun _ => 0)))] := hD
  refine W.widen (k := 4) (n := 35619) (Nat.le_of_ble_eq_true rfl) (Nat.le_of_ble_eq_true rfl) ?_
  refine va_put (D := D) (ci := 1) (v := .ref a4) (ty := .array .int) (C := RX1) (T := TX1) (N := 7) hx hb hts in_X1 tyX1 tyX1_ok nmX1 hown hK hP hD hS 0 rfl rfl 6 (by decide) (hts _ q193) (fun _ h9 => h9) rfl (by decide +kernel) rfl rfl (Nat.le_of_ble_eq_true rfl) dX1_init_35 (fun H locs hP hD hS => ?_)
  have hP : va_P D vwCl [(h0, .inr (1, [.ref a1, .int 0, .int 0, .int 0, .ref a2, .ref a3, .ref a4])), (a1, .inl (d, 5, .inl (fun _ => 0))), (a2, .inl (d, 2000, .inl (fun _ => 0))), (a3, .inl (d, 16807, .inl (fun _ => 0))), (a4, .inl (d, 16807, .inl (fun _ => 0)))] H := hP
  have hD : va_D A [(h0, .inr (1, [.ref a1, .int 0, .int 0, .int 0, .ref a2, .ref a3, .ref a4])), (a1, .inl (d, 5, .inl (fun _ => 0))), (a2, .inl (d, 2000, .inl (fun _ => 0))), (a3, .inl (d, 16807, .inl (fun _ => 0))), (a4, .inl (d, 16807, .inl (fun _ => 0)))] := hD
  obtain ⟨g, e0, e1, e2, e3, e4⟩ : ∃ g : Nat → Nat, g 0 = h0 ∧ g 1 = a1 ∧ g 2 = a2 ∧ g 3 = a3 ∧ g 4 = a4 := ⟨fun k => [h0, a1, a2, a3, a4].getD k 0, rfl, rfl, rfl, rfl, rfl⟩
  subst e0
  subst e1
  subst e2
  subst e3
  subst e4
  have hP : va_P D vwCl (wM g d (fun _ => 0) (fun _ => 0) (fun _ => 0) (fun _ => 0) 0 0 0) H := hP.sub [0, 1, 2, 3, 4] rfl
  have hD : va_D A (wM g d (fun _ => 0) (fun _ => 0) (fun _ => 0) (fun _ => 0) 0 0 0) := hD.sub [0, 1, 2, 3, 4] (by decide) rfl
  have hl : lv_has ls 1 [(0, .ref (g 0))] := hl
  exact ret ((fun _ => 0, fun _ => 0, fun _ => 0, fun _ => 0, 0, 0, 0), g, d) _ _ _ _ dX1_init_38 ⟨rfl, okw_0, fun _ _ => rfl, Or.inl rfl⟩ hP hK hD hS
end
section
/-! THE CLAIM OUT OF ONE WALK OF THE LAW'S BODY. Your part is whole_start (and what it stands on); all else here is the same for every law, but numbers. -/
def R_law : String := "HilbertBasisLaw"
def lw_P (b : Addr) (xs : List Int32) (args : Array Value) (s : State) : Prop := args = #[.ref b] ∧ s.IntsAt b xs ∧ xs.length ≤ 192 ∧ (Jvm.Cond.and given_1 narrow_1).before args s = true
def lw_Q (_ : Array Value) (s : State) (o : Outcome) (t : State) : Prop := o = .returned (some (.int 1)) ∧ Framed s o t [] 600000 7290000
def lw_Z (below : List Frame) (a : Array Value) (s : State) : State → Prop := fun t => ∃ o, t.status = .running ∧ Ended t below o ∧ lw_Q a s o t
/-- the law's own end, with 1 on the stack, nothing written that was there before, its room as the claim has it -/
theorem lw_ret {p : Program} {l : Launch} {e : Env} {s : State} {m : MethodId} {below : List Frame} {meth : Method} {c : Code} {b : Nat} (hx : p.tables.exec = Jvm.exec) (hb : c.code = code) (hr : meth.sig.returnType = ret) (hlocks : meth.locks = false) {pc : Nat} {H : Heap} {ls : Array Slot} (hdg : decode code pc = .ok (.ireturn, 1)) : W p l e room_1 s m #[Value.ref b] below meth c H [] 600000 7290000 (lw_Z below #[Value.ref b] s) (F0 m pc ls [.int 1]) := by
  intro T hT X
  obtain ⟨fs, hret, hrun, hended, hW, hframe⟩ := X.leave (v := some (.int 1)) (hlocks := hlocks) (fun h => by rw [hr] at h; cases h)
  have hmeth' : T.vm.method? m = some meth := X.method'
  refine ⟨T.setFrames fs, ?_, .returned (some (.int 1)), hrun, hended, rfl, ⟨_, rfl⟩, hW, hframe⟩
  jvm_step X.here [X.here.top, hx, hb, hdg, hmeth', hr, ret, narrow_b1]
  (try refine ⟨rfl, ?_⟩); (try refine ⟨rfl, ?_⟩)
  first | (intro acts; rw [hret _ acts rfl rfl rfl]) | rw [hret _ _ rfl rfl rfl]
  exact Steps.refl _
/-- what holds at the law's entry: the machine, the code, the tables' words (any of lw_tbl by 'hts w (by decide +kernel)'), the script of L ints xs at the cell b, what the Statement gives of the start (any of its parts by flat_of_before) -/
def lw_At (p : Program) (s : State) (m : MethodId) (meth : Method) (c : Code) (b L : Nat) (xs : Nat → Int32) : Prop :=
  p.tables.exec = Jvm.exec ∧ c.code = code ∧ meth.sig.returnType = ret ∧ c.maxLocals = 4 ∧ s.vm.findClass R_law = some m.cls ∧ (∀ w ∈ lw_tbl, w.before #[Value.ref b] s = true) ∧ va_X b L xs s s.heap ∧ b < s.heap.size ∧ meth.locks = false ∧ (Jvm.Cond.and given_1 narrow_1).before #[Value.ref b] s = true
/-! the law's state at its loop's head, mine -/
abbrev lwA (s : State) : Nat → Prop := fun q => s.heap.size ≤ q
/-- both objects hold the same weights; i ints are read -/
def lwSt (D : va_G) (d : ClassId) (gx gm : Nat → Nat) (s : State) (b i : Nat) (w : Nat → Int) (ux : SB) (um : SM) (H : Heap) (locs : List Loc) (ls : Array Slot) : Prop :=
  InvB w ux ∧ InvM w um ∧ va_P D vwCl (wSB gx d ux) H ∧ va_P D vwCl (wSM gm d um) H ∧ va_D (lwA s) (wSB gx d ux) ∧ va_D (lwA s) (wSM gm d um) ∧ dj (wSB gx d ux) (wSM gm d um) ∧ va_S (lwA s) s.heap H locs ∧ lv_has ls 4 [(0, .ref b), (1, .ref (gx 0)), (2, .ref (gm 0)), (3, .int (nI i))]
def lwG (p : Program) (l : Launch) (e : Env) (s : State) (m : MethodId) (below : List Frame) (meth : Method) (c : Code) (D : va_G) (d : ClassId) (gx gm : Nat → Nat) (b i pc : Nat) : Prop :=
  ∀ (w : Nat → Int) (ux : SB) (um : SM) (H : Heap) (locs : List Loc) (ls : Array Slot), lwSt D d gx gm s b i w ux um H locs ls → W p l e room_1 s m #[Value.ref b] below meth c H locs 14 42239 (lw_Z below #[Value.ref b] s) (F0 m pc ls [])
theorem and15 (x : Int32) : ∃ k, k < 16 ∧ x &&& 15 = nI k := ⟨_, Nat.mod_lt _ (by decide), pk_and x (m := 15) 4 (by decide)⟩
theorem dj_of_app {A : Nat → Prop} {ws : va_W} {c : Nat × va_E} (h : va_D A (ws ++ [c])) : dj [c] ws := by
  intro i j p q h1 h2 e
  have hj : j < ws.length := (List.getElem?_eq_some_iff.mp h2).1
  have hi : i = 0 := by
    have := (List.getElem?_eq_some_iff.mp h1).1
    simp at this
    exact this
  subst hi
  have h3 : (ws ++ [c])[ws.length]? = some p := by
    rw [List.getElem?_append_right (Nat.le_refl _), Nat.sub_self]
    exact h1
  have h4 : (ws ++ [c])[j]? = some q := by
    rw [List.getElem?_append_left hj]
    exact h2
  have := h.1 _ _ p q h3 h4 e
  omega
end
section
/-! the fourteen calls of the law, each against the reference -/
set_option maxHeartbeats 4000000 in
set_option maxRecDepth 100000 in
/-- case 0: set -/
theorem lwc_0 {p : Program} {l : Launch} {e : Env} {s : State} {m : MethodId} {below : List Frame} {meth : Method} {c : Code} {D : va_G} {d : ClassId} {gx gm : Nat → Nat} {b L i : Nat} {xs : Nat → Int32} (S : CallFix p m c cL_law 4 s #[Value.ref b] lw_all R_law) (hK : va_K D vwCl [(d, .int)] s) (hX : va_X b L xs s s.heap) (hbl : b < s.heap.size) (hL : L ≤ 192) (hi : i + 2 < L) (hN : lwG p l e s m below meth c D d gx gm b i 416) : lwG p l e s m below meth c D d gx gm b i 104 := by
  intro w ux um H locs ls h
  obtain ⟨hB, hM, hPx, hPm, hDx, hDm, hj, hS, hl⟩ := h
  have hx := S.1
  have hb := S.2.1
  have hts := S.2.2.2.2
  have hA : ∀ q : Nat, s.heap.size ≤ q → lwA s q := fun _ h => h
  have hbA : ¬ lwA s b := Nat.not_le.mpr hbl
  obtain ⟨fw, fn, fx, fl, fp, ft, fk, fr, cnt, cur⟩ := ux
  obtain ⟨kw, kc, km, kf, rdy, kn, bal⟩ := um
  have hPx : va_P D vwCl (wB gx d fw fn fx fl fp ft fk fr cnt cur) H := hPx
  have hPm : va_P D vwCl (wM gm d kw kc km kf rdy kn bal) H := hPm
  have hDx : va_D (lwA s) (wB gx d fw fn fx fl fp ft fk fr cnt cur) := hDx
  have hDm : va_D (lwA s) (wM gm d kw kc km kf rdy kn bal) := hDm
  have hj : dj (wB gx d fw fn fx fl fp ft fk fr cnt cur) (wM gm d kw kc km kf rdy kn bal) := hj
  refine lv_aload_n hx hb dL_law_104 rfl (lv_at hl 1 rfl) ?_
  refine lv_aload_n hx hb dL_law_105 rfl (lv_at hl 0 rfl) ?_
  refine lv_iload_n hx hb dL_law_106 rfl (lv_at hl 3 rfl) ?_
  refine lv_iconst (v := 1) hx hb dL_law_107 (by decide) ?_
  refine lv_iadd hx hb dL_law_108 ?_
  refine tpi (y := nI (i + 1)) (nI_add i 1) ?_
  refine xsld hx hb hX hbl hbA hS (i + 1) rfl (by omega) (by omega) dL_law_109 ?_
  refine lv_aload_n hx hb dL_law_110 rfl (lv_at hl 0 rfl) ?_
  refine lv_iload_n hx hb dL_law_111 rfl (lv_at hl 3 rfl) ?_
  refine lv_iconst (v := 2) hx hb dL_law_112 (by decide) ?_
  refine lv_iadd hx hb dL_law_113 ?_
  refine tpi (y := nI (i + 2)) (nI_add i 2) ?_
  refine xsld hx hb hX hbl hbA hS (i + 2) rfl (by omega) (by omega) dL_law_114 ?_
  refine cL (As := [.int (xs (i + 1)), .int (xs (i + 2))]) (rest := []) S (metX0_set (w := w) hB) (cwV 2 hts (lw_V q67 q68 q69 q25 q70) rfl rfl rfl (by decide +kernel) ⟨Nat.le_of_ble_eq_true rfl, Nat.le_of_ble_eq_true rfl⟩) hK hPx hPm hDx hj hS hA rfl rfl rfl hl.1 rfl (Nat.le_of_ble_eq_true rfl) dL_law_115 ⟨Nat.le_of_ble_eq_true rfl, Nat.le_of_ble_eq_true rfl⟩ (fun r1 u1 H locs hu hPx hPm hDx hj hS => ?_)
  obtain ⟨hr1, hB⟩ := hu
  obtain rfl : r1 = aSet w (xs (i + 1)) (xs (i + 2)) := hr1
  refine lv_aload_n hx hb dL_law_118 rfl (lv_at hl 2 rfl) ?_
  refine lv_aload_n hx hb dL_law_119 rfl (lv_at hl 0 rfl) ?_
  refine lv_iload_n hx hb dL_law_120 rfl (lv_at hl 3 rfl) ?_
  refine lv_iconst (v := 1) hx hb dL_law_121 (by decide) ?_
  refine lv_iadd hx hb dL_law_122 ?_
  refine tpi (y := nI (i + 1)) (nI_add i 1) ?_
  refine xsld hx hb hX hbl hbA hS (i + 1) rfl (by omega) (by omega) dL_law_123 ?_
  refine lv_aload_n hx hb dL_law_124 rfl (lv_at hl 0 rfl) ?_
  refine lv_iload_n hx hb dL_law_125 rfl (lv_at hl 3 rfl) ?_
  refine lv_iconst (v := 2) hx hb dL_law_126 (by decide) ?_
  refine lv_iadd hx hb dL_law_127 ?_
  refine tpi (y := nI (i + 2)) (nI_add i 2) ?_
  refine xsld hx hb hX hbl hbA hS (i + 2) rfl (by omega) (by omega) dL_law_128 ?_
  refine cL (As := [.int (xs (i + 1)), .int (xs (i + 2))]) (rest := [.int (aSet w (xs (i + 1)) (xs (i + 2)))]) S (metX1_set (w := w) hM) (cwV 2 hts (lw_V q209 q210 q211 q26 q212) rfl rfl rfl (by decide +kernel) ⟨Nat.le_of_ble_eq_true rfl, Nat.le_of_ble_eq_true rfl⟩) hK hPm hPx hDm hj.symm hS hA rfl rfl rfl hl.1 rfl (Nat.le_of_ble_eq_true rfl) dL_law_129 ⟨Nat.le_of_ble_eq_true rfl, Nat.le_of_ble_eq_true rfl⟩ (fun r2 u2 H locs hu hPm hPx hDm hj hS => ?_)
  obtain ⟨hr2, hM⟩ := hu
  obtain rfl : r2 = aSet w (xs (i + 1)) (xs (i + 2)) := hr2
  refine lv_icmp_eq (tgt := 416) hx hb dL_law_132 (by decide) (fun _ => ?_) (fun hc => absurd rfl hc)
  exact hN _ u1 u2 _ _ _ ⟨hB, hM, hPx, hPm, hDx, hDm, hj.symm, hS, hl⟩
set_option maxHeartbeats 4000000 in
set_option maxRecDepth 100000 in
/-- case 1: sow -/
theorem lwc_1 {p : Program} {l : Launch} {e : Env} {s : State} {m : MethodId} {below : List Frame} {meth : Method} {c : Code} {D : va_G} {d : ClassId} {gx gm : Nat → Nat} {b L i : Nat} {xs : Nat → Int32} (S : CallFix p m c cL_law 4 s #[Value.ref b] lw_all R_law) (hK : va_K D vwCl [(d, .int)] s) (hX : va_X b L xs s s.heap) (hbl : b < s.heap.size) (hL : L ≤ 192) (hi : i + 2 < L) (hN : lwG p l e s m below meth c D d gx gm b i 416) : lwG p l e s m below meth c D d gx gm b i 137 := by
  intro w ux um H locs ls h
  obtain ⟨hB, hM, hPx, hPm, hDx, hDm, hj, hS, hl⟩ := h
  have hx := S.1
  have hb := S.2.1
  have hts := S.2.2.2.2
  have hA : ∀ q : Nat, s.heap.size ≤ q → lwA s q := fun _ h => h
  have hbA : ¬ lwA s b := Nat.not_le.mpr hbl
  obtain ⟨fw, fn, fx, fl, fp, ft, fk, fr, cnt, cur⟩ := ux
  obtain ⟨kw, kc, km, kf, rdy, kn, bal⟩ := um
  have hPx : va_P D vwCl (wB gx d fw fn fx fl fp ft fk fr cnt cur) H := hPx
  have hPm : va_P D vwCl (wM gm d kw kc km kf rdy kn bal) H := hPm
  have hDx : va_D (lwA s) (wB gx d fw fn fx fl fp ft fk fr cnt cur) := hDx
  have hDm : va_D (lwA s) (wM gm d kw kc km kf rdy kn bal) := hDm
  have hj : dj (wB gx d fw fn fx fl fp ft fk fr cnt cur) (wM gm d kw kc km kf rdy kn bal) := hj
  refine lv_aload_n hx hb dL_law_137 rfl (lv_at hl 1 rfl) ?_
  refine lv_aload_n hx hb dL_law_138 rfl (lv_at hl 0 rfl) ?_
  refine lv_iload_n hx hb dL_law_139 rfl (lv_at hl 3 rfl) ?_
  refine lv_iconst (v := 1) hx hb dL_law_140 (by decide) ?_
  refine lv_iadd hx hb dL_law_141 ?_
  refine tpi (y := nI (i + 1)) (nI_add i 1) ?_
  refine xsld hx hb hX hbl hbA hS (i + 1) rfl (by omega) (by omega) dL_law_142 ?_
  refine lv_aload_n hx hb dL_law_143 rfl (lv_at hl 0 rfl) ?_
  refine lv_iload_n hx hb dL_law_144 rfl (lv_at hl 3 rfl) ?_
  refine lv_iconst (v := 2) hx hb dL_law_145 (by decide) ?_
  refine lv_iadd hx hb dL_law_146 ?_
  refine tpi (y := nI (i + 2)) (nI_add i 2) ?_
  refine xsld hx hb hX hbl hbA hS (i + 2) rfl (by omega) (by omega) dL_law_147 ?_
  refine cL (As := [.int (xs (i + 1)), .int (xs (i + 2))]) (rest := []) S (metX0_sow (w := w) hB) (cwV 2 hts (lw_V q74 q75 q76 q25 q77) rfl rfl rfl (by decide +kernel) ⟨Nat.le_of_ble_eq_true rfl, Nat.le_of_ble_eq_true rfl⟩) hK hPx hPm hDx hj hS hA rfl rfl rfl hl.1 rfl (Nat.le_of_ble_eq_true rfl) dL_law_148 ⟨Nat.le_of_ble_eq_true rfl, Nat.le_of_ble_eq_true rfl⟩ (fun r1 u1 H locs hu hPx hPm hDx hj hS => ?_)
  obtain ⟨hr1, hB⟩ := hu
  obtain rfl : r1 = aSow (xs (i + 1)) (xs (i + 2)) := hr1
  refine lv_aload_n hx hb dL_law_151 rfl (lv_at hl 2 rfl) ?_
  refine lv_aload_n hx hb dL_law_152 rfl (lv_at hl 0 rfl) ?_
  refine lv_iload_n hx hb dL_law_153 rfl (lv_at hl 3 rfl) ?_
  refine lv_iconst (v := 1) hx hb dL_law_154 (by decide) ?_
  refine lv_iadd hx hb dL_law_155 ?_
  refine tpi (y := nI (i + 1)) (nI_add i 1) ?_
  refine xsld hx hb hX hbl hbA hS (i + 1) rfl (by omega) (by omega) dL_law_156 ?_
  refine lv_aload_n hx hb dL_law_157 rfl (lv_at hl 0 rfl) ?_
  refine lv_iload_n hx hb dL_law_158 rfl (lv_at hl 3 rfl) ?_
  refine lv_iconst (v := 2) hx hb dL_law_159 (by decide) ?_
  refine lv_iadd hx hb dL_law_160 ?_
  refine tpi (y := nI (i + 2)) (nI_add i 2) ?_
  refine xsld hx hb hX hbl hbA hS (i + 2) rfl (by omega) (by omega) dL_law_161 ?_
  refine cL (As := [.int (xs (i + 1)), .int (xs (i + 2))]) (rest := [.int (aSow (xs (i + 1)) (xs (i + 2)))]) S (metX1_sow (w := w) hM) (cwV 2 hts (lw_V q213 q214 q215 q26 q216) rfl rfl rfl (by decide +kernel) ⟨Nat.le_of_ble_eq_true rfl, Nat.le_of_ble_eq_true rfl⟩) hK hPm hPx hDm hj.symm hS hA rfl rfl rfl hl.1 rfl (Nat.le_of_ble_eq_true rfl) dL_law_162 ⟨Nat.le_of_ble_eq_true rfl, Nat.le_of_ble_eq_true rfl⟩ (fun r2 u2 H locs hu hPm hPx hDm hj hS => ?_)
  obtain ⟨hr2, hM⟩ := hu
  obtain rfl : r2 = aSow (xs (i + 1)) (xs (i + 2)) := hr2
  refine lv_icmp_eq (tgt := 416) hx hb dL_law_165 (by decide) (fun _ => ?_) (fun hc => absurd rfl hc)
  exact hN _ u1 u2 _ _ _ ⟨hB, hM, hPx, hPm, hDx, hDm, hj.symm, hS, hl⟩
set_option maxHeartbeats 4000000 in
set_option maxRecDepth 100000 in
/-- case 2: weight -/
theorem lwc_2 {p : Program} {l : Launch} {e : Env} {s : State} {m : MethodId} {below : List Frame} {meth : Method} {c : Code} {D : va_G} {d : ClassId} {gx gm : Nat → Nat} {b L i : Nat} {xs : Nat → Int32} (S : CallFix p m c cL_law 4 s #[Value.ref b] lw_all R_law) (hK : va_K D vwCl [(d, .int)] s) (hX : va_X b L xs s s.heap) (hbl : b < s.heap.size) (hL : L ≤ 192) (hi : i + 2 < L) (hN : lwG p l e s m below meth c D d gx gm b i 416) : lwG p l e s m below meth c D d gx gm b i 170 := by
  intro w ux um H locs ls h
  obtain ⟨hB, hM, hPx, hPm, hDx, hDm, hj, hS, hl⟩ := h
  have hx := S.1
  have hb := S.2.1
  have hts := S.2.2.2.2
  have hA : ∀ q : Nat, s.heap.size ≤ q → lwA s q := fun _ h => h
  have hbA : ¬ lwA s b := Nat.not_le.mpr hbl
  obtain ⟨fw, fn, fx, fl, fp, ft, fk, fr, cnt, cur⟩ := ux
  obtain ⟨kw, kc, km, kf, rdy, kn, bal⟩ := um
  have hPx : va_P D vwCl (wB gx d fw fn fx fl fp ft fk fr cnt cur) H := hPx
  have hPm : va_P D vwCl (wM gm d kw kc km kf rdy kn bal) H := hPm
  have hDx : va_D (lwA s) (wB gx d fw fn fx fl fp ft fk fr cnt cur) := hDx
  have hDm : va_D (lwA s) (wM gm d kw kc km kf rdy kn bal) := hDm
  have hj : dj (wB gx d fw fn fx fl fp ft fk fr cnt cur) (wM gm d kw kc km kf rdy kn bal) := hj
  refine lv_aload_n hx hb dL_law_170 rfl (lv_at hl 1 rfl) ?_
  refine lv_aload_n hx hb dL_law_171 rfl (lv_at hl 0 rfl) ?_
  refine lv_iload_n hx hb dL_law_172 rfl (lv_at hl 3 rfl) ?_
  refine lv_iconst (v := 1) hx hb dL_law_173 (by decide) ?_
  refine lv_iadd hx hb dL_law_174 ?_
  refine tpi (y := nI (i + 1)) (nI_add i 1) ?_
  refine xsld hx hb hX hbl hbA hS (i + 1) rfl (by omega) (by omega) dL_law_175 ?_
  refine cL (As := [.int (xs (i + 1))]) (rest := []) S (metX0_weight (w := w) hB) (cwV 1 hts (lw_V q78 q79 q80 q25 q81) rfl rfl rfl (by decide +kernel) ⟨Nat.le_of_ble_eq_true rfl, Nat.le_of_ble_eq_true rfl⟩) hK hPx hPm hDx hj hS hA rfl rfl rfl hl.1 rfl (Nat.le_of_ble_eq_true rfl) dL_law_176 ⟨Nat.le_of_ble_eq_true rfl, Nat.le_of_ble_eq_true rfl⟩ (fun r1 u1 H locs hu hPx hPm hDx hj hS => ?_)
  obtain ⟨hr1, hB⟩ := hu
  obtain rfl : r1 = aWeight w (xs (i + 1)) := hr1
  refine lv_aload_n hx hb dL_law_179 rfl (lv_at hl 2 rfl) ?_
  refine lv_aload_n hx hb dL_law_180 rfl (lv_at hl 0 rfl) ?_
  refine lv_iload_n hx hb dL_law_181 rfl (lv_at hl 3 rfl) ?_
  refine lv_iconst (v := 1) hx hb dL_law_182 (by decide) ?_
  refine lv_iadd hx hb dL_law_183 ?_
  refine tpi (y := nI (i + 1)) (nI_add i 1) ?_
  refine xsld hx hb hX hbl hbA hS (i + 1) rfl (by omega) (by omega) dL_law_184 ?_
  refine cL (As := [.int (xs (i + 1))]) (rest := [.int (aWeight w (xs (i + 1)))]) S (metX1_weight (w := w) hM) (cwV 1 hts (lw_V q217 q218 q219 q26 q220) rfl rfl rfl (by decide +kernel) ⟨Nat.le_of_ble_eq_true rfl, Nat.le_of_ble_eq_true rfl⟩) hK hPm hPx hDm hj.symm hS hA rfl rfl rfl hl.1 rfl (Nat.le_of_ble_eq_true rfl) dL_law_185 ⟨Nat.le_of_ble_eq_true rfl, Nat.le_of_ble_eq_true rfl⟩ (fun r2 u2 H locs hu hPm hPx hDm hj hS => ?_)
  obtain ⟨hr2, hM⟩ := hu
  obtain rfl : r2 = aWeight w (xs (i + 1)) := hr2
  refine lv_icmp_eq (tgt := 416) hx hb dL_law_188 (by decide) (fun _ => ?_) (fun hc => absurd rfl hc)
  exact hN _ u1 u2 _ _ _ ⟨hB, hM, hPx, hPm, hDx, hDm, hj.symm, hS, hl⟩
set_option maxHeartbeats 4000000 in
set_option maxRecDepth 100000 in
/-- case 3: isBalance -/
theorem lwc_3 {p : Program} {l : Launch} {e : Env} {s : State} {m : MethodId} {below : List Frame} {meth : Method} {c : Code} {D : va_G} {d : ClassId} {gx gm : Nat → Nat} {b L i : Nat} {xs : Nat → Int32} (S : CallFix p m c cL_law 4 s #[Value.ref b] lw_all R_law) (hK : va_K D vwCl [(d, .int)] s) (hX : va_X b L xs s s.heap) (hbl : b < s.heap.size) (hL : L ≤ 192) (hi : i + 2 < L) (hN : lwG p l e s m below meth c D d gx gm b i 416) : lwG p l e s m below meth c D d gx gm b i 193 := by
  intro w ux um H locs ls h
  obtain ⟨hB, hM, hPx, hPm, hDx, hDm, hj, hS, hl⟩ := h
  have hx := S.1
  have hb := S.2.1
  have hts := S.2.2.2.2
  have hA : ∀ q : Nat, s.heap.size ≤ q → lwA s q := fun _ h => h
  have hbA : ¬ lwA s b := Nat.not_le.mpr hbl
  obtain ⟨fw, fn, fx, fl, fp, ft, fk, fr, cnt, cur⟩ := ux
  obtain ⟨kw, kc, km, kf, rdy, kn, bal⟩ := um
  have hPx : va_P D vwCl (wB gx d fw fn fx fl fp ft fk fr cnt cur) H := hPx
  have hPm : va_P D vwCl (wM gm d kw kc km kf rdy kn bal) H := hPm
  have hDx : va_D (lwA s) (wB gx d fw fn fx fl fp ft fk fr cnt cur) := hDx
  have hDm : va_D (lwA s) (wM gm d kw kc km kf rdy kn bal) := hDm
  have hj : dj (wB gx d fw fn fx fl fp ft fk fr cnt cur) (wM gm d kw kc km kf rdy kn bal) := hj
  refine lv_aload_n hx hb dL_law_193 rfl (lv_at hl 1 rfl) ?_
  refine lv_aload_n hx hb dL_law_194 rfl (lv_at hl 0 rfl) ?_
  refine lv_iload_n hx hb dL_law_195 rfl (lv_at hl 3 rfl) ?_
  refine lv_iconst (v := 1) hx hb dL_law_196 (by decide) ?_
  refine lv_iadd hx hb dL_law_197 ?_
  refine tpi (y := nI (i + 1)) (nI_add i 1) ?_
  refine xsld hx hb hX hbl hbA hS (i + 1) rfl (by omega) (by omega) dL_law_198 ?_
  refine cL (As := [.int (xs (i + 1))]) (rest := []) S (metX0_isBalance (w := w) hB) (cwV 1 hts (lw_V q82 q83 q84 q25 q85) rfl rfl rfl (by decide +kernel) ⟨Nat.le_of_ble_eq_true rfl, Nat.le_of_ble_eq_true rfl⟩) hK hPx hPm hDx hj hS hA rfl rfl rfl hl.1 rfl (Nat.le_of_ble_eq_true rfl) dL_law_199 ⟨Nat.le_of_ble_eq_true rfl, Nat.le_of_ble_eq_true rfl⟩ (fun r1 u1 H locs hu hPx hPm hDx hj hS => ?_)
  obtain ⟨hr1, hB⟩ := hu
  obtain rfl : r1 = aIsBal w (xs (i + 1)) := hr1
  refine lv_aload_n hx hb dL_law_202 rfl (lv_at hl 2 rfl) ?_
  refine lv_aload_n hx hb dL_law_203 rfl (lv_at hl 0 rfl) ?_
  refine lv_iload_n hx hb dL_law_204 rfl (lv_at hl 3 rfl) ?_
  refine lv_iconst (v := 1) hx hb dL_law_205 (by decide) ?_
  refine lv_iadd hx hb dL_law_206 ?_
  refine tpi (y := nI (i + 1)) (nI_add i 1) ?_
  refine xsld hx hb hX hbl hbA hS (i + 1) rfl (by omega) (by omega) dL_law_207 ?_
  refine cL (As := [.int (xs (i + 1))]) (rest := [.int (aIsBal w (xs (i + 1)))]) S (metX1_isBalance (w := w) hM) (cwV 1 hts (lw_V q221 q222 q223 q26 q224) rfl rfl rfl (by decide +kernel) ⟨Nat.le_of_ble_eq_true rfl, Nat.le_of_ble_eq_true rfl⟩) hK hPm hPx hDm hj.symm hS hA rfl rfl rfl hl.1 rfl (Nat.le_of_ble_eq_true rfl) dL_law_208 ⟨Nat.le_of_ble_eq_true rfl, Nat.le_of_ble_eq_true rfl⟩ (fun r2 u2 H locs hu hPm hPx hDm hj hS => ?_)
  obtain ⟨hr2, hM⟩ := hu
  obtain rfl : r2 = aIsBal w (xs (i + 1)) := hr2
  refine lv_icmp_eq (tgt := 416) hx hb dL_law_211 (by decide) (fun _ => ?_) (fun hc => absurd rfl hc)
  exact hN _ u1 u2 _ _ _ ⟨hB, hM, hPx, hPm, hDx, hDm, hj.symm, hS, hl⟩
set_option maxHeartbeats 4000000 in
set_option maxRecDepth 100000 in
/-- case 4: isLeast -/
theorem lwc_4 {p : Program} {l : Launch} {e : Env} {s : State} {m : MethodId} {below : List Frame} {meth : Method} {c : Code} {D : va_G} {d : ClassId} {gx gm : Nat → Nat} {b L i : Nat} {xs : Nat → Int32} (S : CallFix p m c cL_law 4 s #[Value.ref b] lw_all R_law) (hK : va_K D vwCl [(d, .int)] s) (hX : va_X b L xs s s.heap) (hbl : b < s.heap.size) (hL : L ≤ 192) (hi : i + 2 < L) (hN : lwG p l e s m below meth c D d gx gm b i 416) : lwG p l e s m below meth c D d gx gm b i 216 := by
  intro w ux um H locs ls h
  obtain ⟨hB, hM, hPx, hPm, hDx, hDm, hj, hS, hl⟩ := h
  have hx := S.1
  have hb := S.2.1
  have hts := S.2.2.2.2
  have hA : ∀ q : Nat, s.heap.size ≤ q → lwA s q := fun _ h => h
  have hbA : ¬ lwA s b := Nat.not_le.mpr hbl
  obtain ⟨fw, fn, fx, fl, fp, ft, fk, fr, cnt, cur⟩ := ux
  obtain ⟨kw, kc, km, kf, rdy, kn, bal⟩ := um
  have hPx : va_P D vwCl (wB gx d fw fn fx fl fp ft fk fr cnt cur) H := hPx
  have hPm : va_P D vwCl (wM gm d kw kc km kf rdy kn bal) H := hPm
  have hDx : va_D (lwA s) (wB gx d fw fn fx fl fp ft fk fr cnt cur) := hDx
  have hDm : va_D (lwA s) (wM gm d kw kc km kf rdy kn bal) := hDm
  have hj : dj (wB gx d fw fn fx fl fp ft fk fr cnt cur) (wM gm d kw kc km kf rdy kn bal) := hj
  refine lv_aload_n hx hb dL_law_216 rfl (lv_at hl 1 rfl) ?_
  refine lv_aload_n hx hb dL_law_217 rfl (lv_at hl 0 rfl) ?_
  refine lv_iload_n hx hb dL_law_218 rfl (lv_at hl 3 rfl) ?_
  refine lv_iconst (v := 1) hx hb dL_law_219 (by decide) ?_
  refine lv_iadd hx hb dL_law_220 ?_
  refine tpi (y := nI (i + 1)) (nI_add i 1) ?_
  refine xsld hx hb hX hbl hbA hS (i + 1) rfl (by omega) (by omega) dL_law_221 ?_
  refine cL (As := [.int (xs (i + 1))]) (rest := []) S (metX0_isLeast (w := w) hB) (cwV 1 hts (lw_V q97 q98 q99 q25 q100) rfl rfl rfl (by decide +kernel) ⟨Nat.le_of_ble_eq_true rfl, Nat.le_of_ble_eq_true rfl⟩) hK hPx hPm hDx hj hS hA rfl rfl rfl hl.1 rfl (Nat.le_of_ble_eq_true rfl) dL_law_222 ⟨Nat.le_of_ble_eq_true rfl, Nat.le_of_ble_eq_true rfl⟩ (fun r1 u1 H locs hu hPx hPm hDx hj hS => ?_)
  obtain ⟨hr1, hB⟩ := hu
  obtain rfl : r1 = aIsLeast w (xs (i + 1)) := hr1
  refine lv_aload_n hx hb dL_law_225 rfl (lv_at hl 2 rfl) ?_
  refine lv_aload_n hx hb dL_law_226 rfl (lv_at hl 0 rfl) ?_
  refine lv_iload_n hx hb dL_law_227 rfl (lv_at hl 3 rfl) ?_
  refine lv_iconst (v := 1) hx hb dL_law_228 (by decide) ?_
  refine lv_iadd hx hb dL_law_229 ?_
  refine tpi (y := nI (i + 1)) (nI_add i 1) ?_
  refine xsld hx hb hX hbl hbA hS (i + 1) rfl (by omega) (by omega) dL_law_230 ?_
  refine cL (As := [.int (xs (i + 1))]) (rest := [.int (aIsLeast w (xs (i + 1)))]) S (metX1_isLeast (w := w) hM) (cwV 1 hts (lw_V q237 q238 q239 q26 q240) rfl rfl rfl (by decide +kernel) ⟨Nat.le_of_ble_eq_true rfl, Nat.le_of_ble_eq_true rfl⟩) hK hPm hPx hDm hj.symm hS hA rfl rfl rfl hl.1 rfl (Nat.le_of_ble_eq_true rfl) dL_law_231 ⟨Nat.le_of_ble_eq_true rfl, Nat.le_of_ble_eq_true rfl⟩ (fun r2 u2 H locs hu hPm hPx hDm hj hS => ?_)
  obtain ⟨hr2, hM⟩ := hu
  obtain rfl : r2 = aIsLeast w (xs (i + 1)) := hr2
  refine lv_icmp_eq (tgt := 416) hx hb dL_law_234 (by decide) (fun _ => ?_) (fun hc => absurd rfl hc)
  exact hN _ u1 u2 _ _ _ ⟨hB, hM, hPx, hPm, hDx, hDm, hj.symm, hS, hl⟩
set_option maxHeartbeats 4000000 in
set_option maxRecDepth 100000 in
/-- case 5: least -/
theorem lwc_5 {p : Program} {l : Launch} {e : Env} {s : State} {m : MethodId} {below : List Frame} {meth : Method} {c : Code} {D : va_G} {d : ClassId} {gx gm : Nat → Nat} {b L i : Nat} {xs : Nat → Int32} (S : CallFix p m c cL_law 4 s #[Value.ref b] lw_all R_law) (hK : va_K D vwCl [(d, .int)] s) (hX : va_X b L xs s s.heap) (hbl : b < s.heap.size) (hL : L ≤ 192) (hi : i + 2 < L) (hN : lwG p l e s m below meth c D d gx gm b i 416) : lwG p l e s m below meth c D d gx gm b i 239 := by
  intro w ux um H locs ls h
  obtain ⟨hB, hM, hPx, hPm, hDx, hDm, hj, hS, hl⟩ := h
  have hx := S.1
  have hb := S.2.1
  have hts := S.2.2.2.2
  have hA : ∀ q : Nat, s.heap.size ≤ q → lwA s q := fun _ h => h
  have hbA : ¬ lwA s b := Nat.not_le.mpr hbl
  obtain ⟨fw, fn, fx, fl, fp, ft, fk, fr, cnt, cur⟩ := ux
  obtain ⟨kw, kc, km, kf, rdy, kn, bal⟩ := um
  have hPx : va_P D vwCl (wB gx d fw fn fx fl fp ft fk fr cnt cur) H := hPx
  have hPm : va_P D vwCl (wM gm d kw kc km kf rdy kn bal) H := hPm
  have hDx : va_D (lwA s) (wB gx d fw fn fx fl fp ft fk fr cnt cur) := hDx
  have hDm : va_D (lwA s) (wM gm d kw kc km kf rdy kn bal) := hDm
  have hj : dj (wB gx d fw fn fx fl fp ft fk fr cnt cur) (wM gm d kw kc km kf rdy kn bal) := hj
  refine lv_aload_n hx hb dL_law_239 rfl (lv_at hl 1 rfl) ?_
  refine cL (As := []) (rest := []) S (metX0_least (w := w) hB) (cwV 0 hts (lw_V q133 q134 q135 q25 q136) rfl rfl rfl (by decide +kernel) ⟨Nat.le_of_ble_eq_true rfl, Nat.le_of_ble_eq_true rfl⟩) hK hPx hPm hDx hj hS hA rfl rfl rfl hl.1 rfl (Nat.le_of_ble_eq_true rfl) dL_law_240 ⟨Nat.le_of_ble_eq_true rfl, Nat.le_of_ble_eq_true rfl⟩ (fun r1 u1 H locs hu hPx hPm hDx hj hS => ?_)
  obtain ⟨hr1, hB⟩ := hu
  obtain rfl : r1 = aLeast w := hr1
  refine lv_aload_n hx hb dL_law_243 rfl (lv_at hl 2 rfl) ?_
  refine cL (As := []) (rest := [.int (aLeast w)]) S (metX1_least (w := w) hM) (cwV 0 hts (lw_V q253 q254 q255 q26 q256) rfl rfl rfl (by decide +kernel) ⟨Nat.le_of_ble_eq_true rfl, Nat.le_of_ble_eq_true rfl⟩) hK hPm hPx hDm hj.symm hS hA rfl rfl rfl hl.1 rfl (Nat.le_of_ble_eq_true rfl) dL_law_244 ⟨Nat.le_of_ble_eq_true rfl, Nat.le_of_ble_eq_true rfl⟩ (fun r2 u2 H locs hu hPm hPx hDm hj hS => ?_)
  obtain ⟨hr2, hM⟩ := hu
  obtain rfl : r2 = aLeast w := hr2
  refine lv_icmp_eq (tgt := 416) hx hb dL_law_247 (by decide) (fun _ => ?_) (fun hc => absurd rfl hc)
  exact hN _ u1 u2 _ _ _ ⟨hB, hM, hPx, hPm, hDx, hDm, hj.symm, hS, hl⟩
set_option maxHeartbeats 4000000 in
set_option maxRecDepth 100000 in
/-- case 6: code -/
theorem lwc_6 {p : Program} {l : Launch} {e : Env} {s : State} {m : MethodId} {below : List Frame} {meth : Method} {c : Code} {D : va_G} {d : ClassId} {gx gm : Nat → Nat} {b L i : Nat} {xs : Nat → Int32} (S : CallFix p m c cL_law 4 s #[Value.ref b] lw_all R_law) (hK : va_K D vwCl [(d, .int)] s) (hX : va_X b L xs s s.heap) (hbl : b < s.heap.size) (hL : L ≤ 192) (hi : i + 2 < L) (hN : lwG p l e s m below meth c D d gx gm b i 416) : lwG p l e s m below meth c D d gx gm b i 252 := by
  intro w ux um H locs ls h
  obtain ⟨hB, hM, hPx, hPm, hDx, hDm, hj, hS, hl⟩ := h
  have hx := S.1
  have hb := S.2.1
  have hts := S.2.2.2.2
  have hA : ∀ q : Nat, s.heap.size ≤ q → lwA s q := fun _ h => h
  have hbA : ¬ lwA s b := Nat.not_le.mpr hbl
  obtain ⟨fw, fn, fx, fl, fp, ft, fk, fr, cnt, cur⟩ := ux
  obtain ⟨kw, kc, km, kf, rdy, kn, bal⟩ := um
  have hPx : va_P D vwCl (wB gx d fw fn fx fl fp ft fk fr cnt cur) H := hPx
  have hPm : va_P D vwCl (wM gm d kw kc km kf rdy kn bal) H := hPm
  have hDx : va_D (lwA s) (wB gx d fw fn fx fl fp ft fk fr cnt cur) := hDx
  have hDm : va_D (lwA s) (wM gm d kw kc km kf rdy kn bal) := hDm
  have hj : dj (wB gx d fw fn fx fl fp ft fk fr cnt cur) (wM gm d kw kc km kf rdy kn bal) := hj
  refine lv_aload_n hx hb dL_law_252 rfl (lv_at hl 1 rfl) ?_
  refine lv_aload_n hx hb dL_law_253 rfl (lv_at hl 0 rfl) ?_
  refine lv_iload_n hx hb dL_law_254 rfl (lv_at hl 3 rfl) ?_
  refine lv_iconst (v := 1) hx hb dL_law_255 (by decide) ?_
  refine lv_iadd hx hb dL_law_256 ?_
  refine tpi (y := nI (i + 1)) (nI_add i 1) ?_
  refine xsld hx hb hX hbl hbA hS (i + 1) rfl (by omega) (by omega) dL_law_257 ?_
  refine cL (As := [.int (xs (i + 1))]) (rest := []) S (metX0_code (w := w) hB) (cwV 1 hts (lw_V q137 q138 q139 q25 q140) rfl rfl rfl (by decide +kernel) ⟨Nat.le_of_ble_eq_true rfl, Nat.le_of_ble_eq_true rfl⟩) hK hPx hPm hDx hj hS hA rfl rfl rfl hl.1 rfl (Nat.le_of_ble_eq_true rfl) dL_law_258 ⟨Nat.le_of_ble_eq_true rfl, Nat.le_of_ble_eq_true rfl⟩ (fun r1 u1 H locs hu hPx hPm hDx hj hS => ?_)
  obtain ⟨hr1, hB⟩ := hu
  obtain rfl : r1 = aCode w (xs (i + 1)) := hr1
  refine lv_aload_n hx hb dL_law_261 rfl (lv_at hl 2 rfl) ?_
  refine lv_aload_n hx hb dL_law_262 rfl (lv_at hl 0 rfl) ?_
  refine lv_iload_n hx hb dL_law_263 rfl (lv_at hl 3 rfl) ?_
  refine lv_iconst (v := 1) hx hb dL_law_264 (by decide) ?_
  refine lv_iadd hx hb dL_law_265 ?_
  refine tpi (y := nI (i + 1)) (nI_add i 1) ?_
  refine xsld hx hb hX hbl hbA hS (i + 1) rfl (by omega) (by omega) dL_law_266 ?_
  refine cL (As := [.int (xs (i + 1))]) (rest := [.int (aCode w (xs (i + 1)))]) S (metX1_code (w := w) hM) (cwV 1 hts (lw_V q257 q258 q259 q26 q260) rfl rfl rfl (by decide +kernel) ⟨Nat.le_of_ble_eq_true rfl, Nat.le_of_ble_eq_true rfl⟩) hK hPm hPx hDm hj.symm hS hA rfl rfl rfl hl.1 rfl (Nat.le_of_ble_eq_true rfl) dL_law_267 ⟨Nat.le_of_ble_eq_true rfl, Nat.le_of_ble_eq_true rfl⟩ (fun r2 u2 H locs hu hPm hPx hDm hj hS => ?_)
  obtain ⟨hr2, hM⟩ := hu
  obtain rfl : r2 = aCode w (xs (i + 1)) := hr2
  refine lv_icmp_eq (tgt := 416) hx hb dL_law_270 (by decide) (fun _ => ?_) (fun hc => absurd rfl hc)
  exact hN _ u1 u2 _ _ _ ⟨hB, hM, hPx, hPm, hDx, hDm, hj.symm, hS, hl⟩
set_option maxHeartbeats 4000000 in
set_option maxRecDepth 100000 in
/-- case 7: using -/
theorem lwc_7 {p : Program} {l : Launch} {e : Env} {s : State} {m : MethodId} {below : List Frame} {meth : Method} {c : Code} {D : va_G} {d : ClassId} {gx gm : Nat → Nat} {b L i : Nat} {xs : Nat → Int32} (S : CallFix p m c cL_law 4 s #[Value.ref b] lw_all R_law) (hK : va_K D vwCl [(d, .int)] s) (hX : va_X b L xs s s.heap) (hbl : b < s.heap.size) (hL : L ≤ 192) (hi : i + 2 < L) (hN : lwG p l e s m below meth c D d gx gm b i 416) : lwG p l e s m below meth c D d gx gm b i 275 := by
  intro w ux um H locs ls h
  obtain ⟨hB, hM, hPx, hPm, hDx, hDm, hj, hS, hl⟩ := h
  have hx := S.1
  have hb := S.2.1
  have hts := S.2.2.2.2
  have hA : ∀ q : Nat, s.heap.size ≤ q → lwA s q := fun _ h => h
  have hbA : ¬ lwA s b := Nat.not_le.mpr hbl
  obtain ⟨fw, fn, fx, fl, fp, ft, fk, fr, cnt, cur⟩ := ux
  obtain ⟨kw, kc, km, kf, rdy, kn, bal⟩ := um
  have hPx : va_P D vwCl (wB gx d fw fn fx fl fp ft fk fr cnt cur) H := hPx
  have hPm : va_P D vwCl (wM gm d kw kc km kf rdy kn bal) H := hPm
  have hDx : va_D (lwA s) (wB gx d fw fn fx fl fp ft fk fr cnt cur) := hDx
  have hDm : va_D (lwA s) (wM gm d kw kc km kf rdy kn bal) := hDm
  have hj : dj (wB gx d fw fn fx fl fp ft fk fr cnt cur) (wM gm d kw kc km kf rdy kn bal) := hj
  refine lv_aload_n hx hb dL_law_275 rfl (lv_at hl 1 rfl) ?_
  refine lv_aload_n hx hb dL_law_276 rfl (lv_at hl 0 rfl) ?_
  refine lv_iload_n hx hb dL_law_277 rfl (lv_at hl 3 rfl) ?_
  refine lv_iconst (v := 1) hx hb dL_law_278 (by decide) ?_
  refine lv_iadd hx hb dL_law_279 ?_
  refine tpi (y := nI (i + 1)) (nI_add i 1) ?_
  refine xsld hx hb hX hbl hbA hS (i + 1) rfl (by omega) (by omega) dL_law_280 ?_
  refine cL (As := [.int (xs (i + 1))]) (rest := []) S (metX0_using (w := w) hB) (cwV 1 hts (lw_V q141 q142 q143 q25 q144) rfl rfl rfl (by decide +kernel) ⟨Nat.le_of_ble_eq_true rfl, Nat.le_of_ble_eq_true rfl⟩) hK hPx hPm hDx hj hS hA rfl rfl rfl hl.1 rfl (Nat.le_of_ble_eq_true rfl) dL_law_281 ⟨Nat.le_of_ble_eq_true rfl, Nat.le_of_ble_eq_true rfl⟩ (fun r1 u1 H locs hu hPx hPm hDx hj hS => ?_)
  obtain ⟨hr1, hB⟩ := hu
  obtain rfl : r1 = aUsing w (xs (i + 1)) := hr1
  refine lv_aload_n hx hb dL_law_284 rfl (lv_at hl 2 rfl) ?_
  refine lv_aload_n hx hb dL_law_285 rfl (lv_at hl 0 rfl) ?_
  refine lv_iload_n hx hb dL_law_286 rfl (lv_at hl 3 rfl) ?_
  refine lv_iconst (v := 1) hx hb dL_law_287 (by decide) ?_
  refine lv_iadd hx hb dL_law_288 ?_
  refine tpi (y := nI (i + 1)) (nI_add i 1) ?_
  refine xsld hx hb hX hbl hbA hS (i + 1) rfl (by omega) (by omega) dL_law_289 ?_
  refine cL (As := [.int (xs (i + 1))]) (rest := [.int (aUsing w (xs (i + 1)))]) S (metX1_using (w := w) hM) (cwV 1 hts (lw_V q261 q262 q263 q26 q264) rfl rfl rfl (by decide +kernel) ⟨Nat.le_of_ble_eq_true rfl, Nat.le_of_ble_eq_true rfl⟩) hK hPm hPx hDm hj.symm hS hA rfl rfl rfl hl.1 rfl (Nat.le_of_ble_eq_true rfl) dL_law_290 ⟨Nat.le_of_ble_eq_true rfl, Nat.le_of_ble_eq_true rfl⟩ (fun r2 u2 H locs hu hPm hPx hDm hj hS => ?_)
  obtain ⟨hr2, hM⟩ := hu
  obtain rfl : r2 = aUsing w (xs (i + 1)) := hr2
  refine lv_icmp_eq (tgt := 416) hx hb dL_law_293 (by decide) (fun _ => ?_) (fun hc => absurd rfl hc)
  exact hN _ u1 u2 _ _ _ ⟨hB, hM, hPx, hPm, hDx, hDm, hj.symm, hS, hl⟩
set_option maxHeartbeats 4000000 in
set_option maxRecDepth 100000 in
/-- case 8: longest -/
theorem lwc_8 {p : Program} {l : Launch} {e : Env} {s : State} {m : MethodId} {below : List Frame} {meth : Method} {c : Code} {D : va_G} {d : ClassId} {gx gm : Nat → Nat} {b L i : Nat} {xs : Nat → Int32} (S : CallFix p m c cL_law 4 s #[Value.ref b] lw_all R_law) (hK : va_K D vwCl [(d, .int)] s) (hX : va_X b L xs s s.heap) (hbl : b < s.heap.size) (hL : L ≤ 192) (hi : i + 2 < L) (hN : lwG p l e s m below meth c D d gx gm b i 416) : lwG p l e s m below meth c D d gx gm b i 298 := by
  intro w ux um H locs ls h
  obtain ⟨hB, hM, hPx, hPm, hDx, hDm, hj, hS, hl⟩ := h
  have hx := S.1
  have hb := S.2.1
  have hts := S.2.2.2.2
  have hA : ∀ q : Nat, s.heap.size ≤ q → lwA s q := fun _ h => h
  have hbA : ¬ lwA s b := Nat.not_le.mpr hbl
  obtain ⟨fw, fn, fx, fl, fp, ft, fk, fr, cnt, cur⟩ := ux
  obtain ⟨kw, kc, km, kf, rdy, kn, bal⟩ := um
  have hPx : va_P D vwCl (wB gx d fw fn fx fl fp ft fk fr cnt cur) H := hPx
  have hPm : va_P D vwCl (wM gm d kw kc km kf rdy kn bal) H := hPm
  have hDx : va_D (lwA s) (wB gx d fw fn fx fl fp ft fk fr cnt cur) := hDx
  have hDm : va_D (lwA s) (wM gm d kw kc km kf rdy kn bal) := hDm
  have hj : dj (wB gx d fw fn fx fl fp ft fk fr cnt cur) (wM gm d kw kc km kf rdy kn bal) := hj
  refine lv_aload_n hx hb dL_law_298 rfl (lv_at hl 1 rfl) ?_
  refine cL (As := []) (rest := []) S (metX0_longest (w := w) hB) (cwV 0 hts (lw_V q145 q146 q147 q25 q148) rfl rfl rfl (by decide +kernel) ⟨Nat.le_of_ble_eq_true rfl, Nat.le_of_ble_eq_true rfl⟩) hK hPx hPm hDx hj hS hA rfl rfl rfl hl.1 rfl (Nat.le_of_ble_eq_true rfl) dL_law_299 ⟨Nat.le_of_ble_eq_true rfl, Nat.le_of_ble_eq_true rfl⟩ (fun r1 u1 H locs hu hPx hPm hDx hj hS => ?_)
  obtain ⟨hr1, hB⟩ := hu
  obtain rfl : r1 = aLongest w := hr1
  refine lv_aload_n hx hb dL_law_302 rfl (lv_at hl 2 rfl) ?_
  refine cL (As := []) (rest := [.int (aLongest w)]) S (metX1_longest (w := w) hM) (cwV 0 hts (lw_V q265 q266 q267 q26 q268) rfl rfl rfl (by decide +kernel) ⟨Nat.le_of_ble_eq_true rfl, Nat.le_of_ble_eq_true rfl⟩) hK hPm hPx hDm hj.symm hS hA rfl rfl rfl hl.1 rfl (Nat.le_of_ble_eq_true rfl) dL_law_303 ⟨Nat.le_of_ble_eq_true rfl, Nat.le_of_ble_eq_true rfl⟩ (fun r2 u2 H locs hu hPm hPx hDm hj hS => ?_)
  obtain ⟨hr2, hM⟩ := hu
  obtain rfl : r2 = aLongest w := hr2
  refine lv_icmp_eq (tgt := 416) hx hb dL_law_306 (by decide) (fun _ => ?_) (fun hc => absurd rfl hc)
  exact hN _ u1 u2 _ _ _ ⟨hB, hM, hPx, hPm, hDx, hDm, hj.symm, hS, hl⟩
set_option maxHeartbeats 4000000 in
set_option maxRecDepth 100000 in
/-- case 9: balances -/
theorem lwc_9 {p : Program} {l : Launch} {e : Env} {s : State} {m : MethodId} {below : List Frame} {meth : Method} {c : Code} {D : va_G} {d : ClassId} {gx gm : Nat → Nat} {b L i : Nat} {xs : Nat → Int32} (S : CallFix p m c cL_law 4 s #[Value.ref b] lw_all R_law) (hK : va_K D vwCl [(d, .int)] s) (hX : va_X b L xs s s.heap) (hbl : b < s.heap.size) (hL : L ≤ 192) (hi : i + 2 < L) (hN : lwG p l e s m below meth c D d gx gm b i 416) : lwG p l e s m below meth c D d gx gm b i 311 := by
  intro w ux um H locs ls h
  obtain ⟨hB, hM, hPx, hPm, hDx, hDm, hj, hS, hl⟩ := h
  have hx := S.1
  have hb := S.2.1
  have hts := S.2.2.2.2
  have hA : ∀ q : Nat, s.heap.size ≤ q → lwA s q := fun _ h => h
  have hbA : ¬ lwA s b := Nat.not_le.mpr hbl
  obtain ⟨fw, fn, fx, fl, fp, ft, fk, fr, cnt, cur⟩ := ux
  obtain ⟨kw, kc, km, kf, rdy, kn, bal⟩ := um
  have hPx : va_P D vwCl (wB gx d fw fn fx fl fp ft fk fr cnt cur) H := hPx
  have hPm : va_P D vwCl (wM gm d kw kc km kf rdy kn bal) H := hPm
  have hDx : va_D (lwA s) (wB gx d fw fn fx fl fp ft fk fr cnt cur) := hDx
  have hDm : va_D (lwA s) (wM gm d kw kc km kf rdy kn bal) := hDm
  have hj : dj (wB gx d fw fn fx fl fp ft fk fr cnt cur) (wM gm d kw kc km kf rdy kn bal) := hj
  refine lv_aload_n hx hb dL_law_311 rfl (lv_at hl 1 rfl) ?_
  refine lv_aload_n hx hb dL_law_312 rfl (lv_at hl 0 rfl) ?_
  refine lv_iload_n hx hb dL_law_313 rfl (lv_at hl 3 rfl) ?_
  refine lv_iconst (v := 1) hx hb dL_law_314 (by decide) ?_
  refine lv_iadd hx hb dL_law_315 ?_
  refine tpi (y := nI (i + 1)) (nI_add i 1) ?_
  refine xsld hx hb hX hbl hbA hS (i + 1) rfl (by omega) (by omega) dL_law_316 ?_
  refine cL (As := [.int (xs (i + 1))]) (rest := []) S (metX0_balances (w := w) hB) (cwV 1 hts (lw_V q153 q154 q155 q25 q156) rfl rfl rfl (by decide +kernel) ⟨Nat.le_of_ble_eq_true rfl, Nat.le_of_ble_eq_true rfl⟩) hK hPx hPm hDx hj hS hA rfl rfl rfl hl.1 rfl (Nat.le_of_ble_eq_true rfl) dL_law_317 ⟨Nat.le_of_ble_eq_true rfl, Nat.le_of_ble_eq_true rfl⟩ (fun r1 u1 H locs hu hPx hPm hDx hj hS => ?_)
  obtain ⟨hr1, hB⟩ := hu
  obtain rfl : r1 = aBal w (xs (i + 1)) := hr1
  refine lv_aload_n hx hb dL_law_320 rfl (lv_at hl 2 rfl) ?_
  refine lv_aload_n hx hb dL_law_321 rfl (lv_at hl 0 rfl) ?_
  refine lv_iload_n hx hb dL_law_322 rfl (lv_at hl 3 rfl) ?_
  refine lv_iconst (v := 1) hx hb dL_law_323 (by decide) ?_
  refine lv_iadd hx hb dL_law_324 ?_
  refine tpi (y := nI (i + 1)) (nI_add i 1) ?_
  refine xsld hx hb hX hbl hbA hS (i + 1) rfl (by omega) (by omega) dL_law_325 ?_
  refine cL (As := [.int (xs (i + 1))]) (rest := [.int (aBal w (xs (i + 1)))]) S (metX1_balances (w := w) hM) (cwV 1 hts (lw_V q269 q270 q271 q26 q272) rfl rfl rfl (by decide +kernel) ⟨Nat.le_of_ble_eq_true rfl, Nat.le_of_ble_eq_true rfl⟩) hK hPm hPx hDm hj.symm hS hA rfl rfl rfl hl.1 rfl (Nat.le_of_ble_eq_true rfl) dL_law_326 ⟨Nat.le_of_ble_eq_true rfl, Nat.le_of_ble_eq_true rfl⟩ (fun r2 u2 H locs hu hPm hPx hDm hj hS => ?_)
  obtain ⟨hr2, hM⟩ := hu
  obtain rfl : r2 = aBal w (xs (i + 1)) := hr2
  refine lv_icmp_eq (tgt := 416) hx hb dL_law_329 (by decide) (fun _ => ?_) (fun hc => absurd rfl hc)
  exact hN _ u1 u2 _ _ _ ⟨hB, hM, hPx, hPm, hDx, hDm, hj.symm, hS, hl⟩
set_option maxHeartbeats 4000000 in
set_option maxRecDepth 100000 in
/-- case 10: fewest -/
theorem lwc_10 {p : Program} {l : Launch} {e : Env} {s : State} {m : MethodId} {below : List Frame} {meth : Method} {c : Code} {D : va_G} {d : ClassId} {gx gm : Nat → Nat} {b L i : Nat} {xs : Nat → Int32} (S : CallFix p m c cL_law 4 s #[Value.ref b] lw_all R_law) (hK : va_K D vwCl [(d, .int)] s) (hX : va_X b L xs s s.heap) (hbl : b < s.heap.size) (hL : L ≤ 192) (hi : i + 2 < L) (hN : lwG p l e s m below meth c D d gx gm b i 416) : lwG p l e s m below meth c D d gx gm b i 334 := by
  intro w ux um H locs ls h
  obtain ⟨hB, hM, hPx, hPm, hDx, hDm, hj, hS, hl⟩ := h
  have hx := S.1
  have hb := S.2.1
  have hts := S.2.2.2.2
  have hA : ∀ q : Nat, s.heap.size ≤ q → lwA s q := fun _ h => h
  have hbA : ¬ lwA s b := Nat.not_le.mpr hbl
  obtain ⟨fw, fn, fx, fl, fp, ft, fk, fr, cnt, cur⟩ := ux
  obtain ⟨kw, kc, km, kf, rdy, kn, bal⟩ := um
  have hPx : va_P D vwCl (wB gx d fw fn fx fl fp ft fk fr cnt cur) H := hPx
  have hPm : va_P D vwCl (wM gm d kw kc km kf rdy kn bal) H := hPm
  have hDx : va_D (lwA s) (wB gx d fw fn fx fl fp ft fk fr cnt cur) := hDx
  have hDm : va_D (lwA s) (wM gm d kw kc km kf rdy kn bal) := hDm
  have hj : dj (wB gx d fw fn fx fl fp ft fk fr cnt cur) (wM gm d kw kc km kf rdy kn bal) := hj
  refine lv_aload_n hx hb dL_law_334 rfl (lv_at hl 1 rfl) ?_
  refine lv_aload_n hx hb dL_law_335 rfl (lv_at hl 0 rfl) ?_
  refine lv_iload_n hx hb dL_law_336 rfl (lv_at hl 3 rfl) ?_
  refine lv_iconst (v := 1) hx hb dL_law_337 (by decide) ?_
  refine lv_iadd hx hb dL_law_338 ?_
  refine tpi (y := nI (i + 1)) (nI_add i 1) ?_
  refine xsld hx hb hX hbl hbA hS (i + 1) rfl (by omega) (by omega) dL_law_339 ?_
  refine cL (As := [.int (xs (i + 1))]) (rest := []) S (metX0_fewest (w := w) hB) (cwV 1 hts (lw_V q161 q162 q163 q25 q164) rfl rfl rfl (by decide +kernel) ⟨Nat.le_of_ble_eq_true rfl, Nat.le_of_ble_eq_true rfl⟩) hK hPx hPm hDx hj hS hA rfl rfl rfl hl.1 rfl (Nat.le_of_ble_eq_true rfl) dL_law_340 ⟨Nat.le_of_ble_eq_true rfl, Nat.le_of_ble_eq_true rfl⟩ (fun r1 u1 H locs hu hPx hPm hDx hj hS => ?_)
  obtain ⟨hr1, hB⟩ := hu
  obtain rfl : r1 = aFew w (xs (i + 1)) := hr1
  refine lv_aload_n hx hb dL_law_343 rfl (lv_at hl 2 rfl) ?_
  refine lv_aload_n hx hb dL_law_344 rfl (lv_at hl 0 rfl) ?_
  refine lv_iload_n hx hb dL_law_345 rfl (lv_at hl 3 rfl) ?_
  refine lv_iconst (v := 1) hx hb dL_law_346 (by decide) ?_
  refine lv_iadd hx hb dL_law_347 ?_
  refine tpi (y := nI (i + 1)) (nI_add i 1) ?_
  refine xsld hx hb hX hbl hbA hS (i + 1) rfl (by omega) (by omega) dL_law_348 ?_
  refine cL (As := [.int (xs (i + 1))]) (rest := [.int (aFew w (xs (i + 1)))]) S (metX1_fewest (w := w) hM) (cwV 1 hts (lw_V q277 q278 q279 q26 q280) rfl rfl rfl (by decide +kernel) ⟨Nat.le_of_ble_eq_true rfl, Nat.le_of_ble_eq_true rfl⟩) hK hPm hPx hDm hj.symm hS hA rfl rfl rfl hl.1 rfl (Nat.le_of_ble_eq_true rfl) dL_law_349 ⟨Nat.le_of_ble_eq_true rfl, Nat.le_of_ble_eq_true rfl⟩ (fun r2 u2 H locs hu hPm hPx hDm hj hS => ?_)
  obtain ⟨hr2, hM⟩ := hu
  obtain rfl : r2 = aFew w (xs (i + 1)) := hr2
  refine lv_icmp_eq (tgt := 416) hx hb dL_law_352 (by decide) (fun _ => ?_) (fun hc => absurd rfl hc)
  exact hN _ u1 u2 _ _ _ ⟨hB, hM, hPx, hPm, hDx, hDm, hj.symm, hS, hl⟩
set_option maxHeartbeats 4000000 in
set_option maxRecDepth 100000 in
/-- case 11: ways -/
theorem lwc_11 {p : Program} {l : Launch} {e : Env} {s : State} {m : MethodId} {below : List Frame} {meth : Method} {c : Code} {D : va_G} {d : ClassId} {gx gm : Nat → Nat} {b L i : Nat} {xs : Nat → Int32} (S : CallFix p m c cL_law 4 s #[Value.ref b] lw_all R_law) (hK : va_K D vwCl [(d, .int)] s) (hX : va_X b L xs s s.heap) (hbl : b < s.heap.size) (hL : L ≤ 192) (hi : i + 2 < L) (hN : lwG p l e s m below meth c D d gx gm b i 416) : lwG p l e s m below meth c D d gx gm b i 357 := by
  intro w ux um H locs ls h
  obtain ⟨hB, hM, hPx, hPm, hDx, hDm, hj, hS, hl⟩ := h
  have hx := S.1
  have hb := S.2.1
  have hts := S.2.2.2.2
  have hA : ∀ q : Nat, s.heap.size ≤ q → lwA s q := fun _ h => h
  have hbA : ¬ lwA s b := Nat.not_le.mpr hbl
  obtain ⟨fw, fn, fx, fl, fp, ft, fk, fr, cnt, cur⟩ := ux
  obtain ⟨kw, kc, km, kf, rdy, kn, bal⟩ := um
  have hPx : va_P D vwCl (wB gx d fw fn fx fl fp ft fk fr cnt cur) H := hPx
  have hPm : va_P D vwCl (wM gm d kw kc km kf rdy kn bal) H := hPm
  have hDx : va_D (lwA s) (wB gx d fw fn fx fl fp ft fk fr cnt cur) := hDx
  have hDm : va_D (lwA s) (wM gm d kw kc km kf rdy kn bal) := hDm
  have hj : dj (wB gx d fw fn fx fl fp ft fk fr cnt cur) (wM gm d kw kc km kf rdy kn bal) := hj
  refine lv_aload_n hx hb dL_law_357 rfl (lv_at hl 1 rfl) ?_
  refine lv_aload_n hx hb dL_law_358 rfl (lv_at hl 0 rfl) ?_
  refine lv_iload_n hx hb dL_law_359 rfl (lv_at hl 3 rfl) ?_
  refine lv_iconst (v := 1) hx hb dL_law_360 (by decide) ?_
  refine lv_iadd hx hb dL_law_361 ?_
  refine tpi (y := nI (i + 1)) (nI_add i 1) ?_
  refine xsld hx hb hX hbl hbA hS (i + 1) rfl (by omega) (by omega) dL_law_362 ?_
  refine cL (As := [.int (xs (i + 1))]) (rest := []) S (metX0_ways (w := w) hB) (cwV 1 hts (lw_V q169 q170 q171 q25 q172) rfl rfl rfl (by decide +kernel) ⟨Nat.le_of_ble_eq_true rfl, Nat.le_of_ble_eq_true rfl⟩) hK hPx hPm hDx hj hS hA rfl rfl rfl hl.1 rfl (Nat.le_of_ble_eq_true rfl) dL_law_363 ⟨Nat.le_of_ble_eq_true rfl, Nat.le_of_ble_eq_true rfl⟩ (fun r1 u1 H locs hu hPx hPm hDx hj hS => ?_)
  obtain ⟨hr1, hB⟩ := hu
  obtain rfl : r1 = aWays w (xs (i + 1)) := hr1
  refine lv_aload_n hx hb dL_law_366 rfl (lv_at hl 2 rfl) ?_
  refine lv_aload_n hx hb dL_law_367 rfl (lv_at hl 0 rfl) ?_
  refine lv_iload_n hx hb dL_law_368 rfl (lv_at hl 3 rfl) ?_
  refine lv_iconst (v := 1) hx hb dL_law_369 (by decide) ?_
  refine lv_iadd hx hb dL_law_370 ?_
  refine tpi (y := nI (i + 1)) (nI_add i 1) ?_
  refine xsld hx hb hX hbl hbA hS (i + 1) rfl (by omega) (by omega) dL_law_371 ?_
  refine cL (As := [.int (xs (i + 1))]) (rest := [.int (aWays w (xs (i + 1)))]) S (metX1_ways (w := w) hM) (cwV 1 hts (lw_V q297 q298 q299 q26 q300) rfl rfl rfl (by decide +kernel) ⟨Nat.le_of_ble_eq_true rfl, Nat.le_of_ble_eq_true rfl⟩) hK hPm hPx hDm hj.symm hS hA rfl rfl rfl hl.1 rfl (Nat.le_of_ble_eq_true rfl) dL_law_372 ⟨Nat.le_of_ble_eq_true rfl, Nat.le_of_ble_eq_true rfl⟩ (fun r2 u2 H locs hu hPm hPx hDm hj hS => ?_)
  obtain ⟨hr2, hM⟩ := hu
  obtain rfl : r2 = aWays w (xs (i + 1)) := hr2
  refine lv_icmp_eq (tgt := 416) hx hb dL_law_375 (by decide) (fun _ => ?_) (fun hc => absurd rfl hc)
  exact hN _ u1 u2 _ _ _ ⟨hB, hM, hPx, hPm, hDx, hDm, hj.symm, hS, hl⟩
set_option maxHeartbeats 4000000 in
set_option maxRecDepth 100000 in
/-- case 12: inside -/
theorem lwc_12 {p : Program} {l : Launch} {e : Env} {s : State} {m : MethodId} {below : List Frame} {meth : Method} {c : Code} {D : va_G} {d : ClassId} {gx gm : Nat → Nat} {b L i : Nat} {xs : Nat → Int32} (S : CallFix p m c cL_law 4 s #[Value.ref b] lw_all R_law) (hK : va_K D vwCl [(d, .int)] s) (hX : va_X b L xs s s.heap) (hbl : b < s.heap.size) (hL : L ≤ 192) (hi : i + 2 < L) (hN : lwG p l e s m below meth c D d gx gm b i 416) : lwG p l e s m below meth c D d gx gm b i 380 := by
  intro w ux um H locs ls h
  obtain ⟨hB, hM, hPx, hPm, hDx, hDm, hj, hS, hl⟩ := h
  have hx := S.1
  have hb := S.2.1
  have hts := S.2.2.2.2
  have hA : ∀ q : Nat, s.heap.size ≤ q → lwA s q := fun _ h => h
  have hbA : ¬ lwA s b := Nat.not_le.mpr hbl
  obtain ⟨fw, fn, fx, fl, fp, ft, fk, fr, cnt, cur⟩ := ux
  obtain ⟨kw, kc, km, kf, rdy, kn, bal⟩ := um
  have hPx : va_P D vwCl (wB gx d fw fn fx fl fp ft fk fr cnt cur) H := hPx
  have hPm : va_P D vwCl (wM gm d kw kc km kf rdy kn bal) H := hPm
  have hDx : va_D (lwA s) (wB gx d fw fn fx fl fp ft fk fr cnt cur) := hDx
  have hDm : va_D (lwA s) (wM gm d kw kc km kf rdy kn bal) := hDm
  have hj : dj (wB gx d fw fn fx fl fp ft fk fr cnt cur) (wM gm d kw kc km kf rdy kn bal) := hj
  refine lv_aload_n hx hb dL_law_380 rfl (lv_at hl 1 rfl) ?_
  refine lv_aload_n hx hb dL_law_381 rfl (lv_at hl 0 rfl) ?_
  refine lv_iload_n hx hb dL_law_382 rfl (lv_at hl 3 rfl) ?_
  refine lv_iconst (v := 1) hx hb dL_law_383 (by decide) ?_
  refine lv_iadd hx hb dL_law_384 ?_
  refine tpi (y := nI (i + 1)) (nI_add i 1) ?_
  refine xsld hx hb hX hbl hbA hS (i + 1) rfl (by omega) (by omega) dL_law_385 ?_
  refine cL (As := [.int (xs (i + 1))]) (rest := []) S (metX0_inside (w := w) hB) (cwV 1 hts (lw_V q173 q174 q175 q25 q176) rfl rfl rfl (by decide +kernel) ⟨Nat.le_of_ble_eq_true rfl, Nat.le_of_ble_eq_true rfl⟩) hK hPx hPm hDx hj hS hA rfl rfl rfl hl.1 rfl (Nat.le_of_ble_eq_true rfl) dL_law_386 ⟨Nat.le_of_ble_eq_true rfl, Nat.le_of_ble_eq_true rfl⟩ (fun r1 u1 H locs hu hPx hPm hDx hj hS => ?_)
  obtain ⟨hr1, hB⟩ := hu
  obtain rfl : r1 = aIns w (xs (i + 1)) := hr1
  refine lv_aload_n hx hb dL_law_389 rfl (lv_at hl 2 rfl) ?_
  refine lv_aload_n hx hb dL_law_390 rfl (lv_at hl 0 rfl) ?_
  refine lv_iload_n hx hb dL_law_391 rfl (lv_at hl 3 rfl) ?_
  refine lv_iconst (v := 1) hx hb dL_law_392 (by decide) ?_
  refine lv_iadd hx hb dL_law_393 ?_
  refine tpi (y := nI (i + 1)) (nI_add i 1) ?_
  refine xsld hx hb hX hbl hbA hS (i + 1) rfl (by omega) (by omega) dL_law_394 ?_
  refine cL (As := [.int (xs (i + 1))]) (rest := [.int (aIns w (xs (i + 1)))]) S (metX1_inside (w := w) hM) (cwV 1 hts (lw_V q301 q302 q303 q26 q304) rfl rfl rfl (by decide +kernel) ⟨Nat.le_of_ble_eq_true rfl, Nat.le_of_ble_eq_true rfl⟩) hK hPm hPx hDm hj.symm hS hA rfl rfl rfl hl.1 rfl (Nat.le_of_ble_eq_true rfl) dL_law_395 ⟨Nat.le_of_ble_eq_true rfl, Nat.le_of_ble_eq_true rfl⟩ (fun r2 u2 H locs hu hPm hPx hDm hj hS => ?_)
  obtain ⟨hr2, hM⟩ := hu
  obtain rfl : r2 = aIns w (xs (i + 1)) := hr2
  refine lv_icmp_eq (tgt := 416) hx hb dL_law_398 (by decide) (fun _ => ?_) (fun hc => absurd rfl hc)
  exact hN _ u1 u2 _ _ _ ⟨hB, hM, hPx, hPm, hDx, hDm, hj.symm, hS, hl⟩
set_option maxHeartbeats 4000000 in
set_option maxRecDepth 100000 in
/-- case 13: small -/
theorem lwc_13 {p : Program} {l : Launch} {e : Env} {s : State} {m : MethodId} {below : List Frame} {meth : Method} {c : Code} {D : va_G} {d : ClassId} {gx gm : Nat → Nat} {b L i : Nat} {xs : Nat → Int32} (S : CallFix p m c cL_law 4 s #[Value.ref b] lw_all R_law) (hK : va_K D vwCl [(d, .int)] s) (hX : va_X b L xs s s.heap) (hbl : b < s.heap.size) (hL : L ≤ 192) (hi : i + 2 < L) (hN : lwG p l e s m below meth c D d gx gm b i 416) : lwG p l e s m below meth c D d gx gm b i 403 := by
  intro w ux um H locs ls h
  obtain ⟨hB, hM, hPx, hPm, hDx, hDm, hj, hS, hl⟩ := h
  have hx := S.1
  have hb := S.2.1
  have hts := S.2.2.2.2
  have hA : ∀ q : Nat, s.heap.size ≤ q → lwA s q := fun _ h => h
  have hbA : ¬ lwA s b := Nat.not_le.mpr hbl
  obtain ⟨fw, fn, fx, fl, fp, ft, fk, fr, cnt, cur⟩ := ux
  obtain ⟨kw, kc, km, kf, rdy, kn, bal⟩ := um
  have hPx : va_P D vwCl (wB gx d fw fn fx fl fp ft fk fr cnt cur) H := hPx
  have hPm : va_P D vwCl (wM gm d kw kc km kf rdy kn bal) H := hPm
  have hDx : va_D (lwA s) (wB gx d fw fn fx fl fp ft fk fr cnt cur) := hDx
  have hDm : va_D (lwA s) (wM gm d kw kc km kf rdy kn bal) := hDm
  have hj : dj (wB gx d fw fn fx fl fp ft fk fr cnt cur) (wM gm d kw kc km kf rdy kn bal) := hj
  refine lv_aload_n hx hb dL_law_403 rfl (lv_at hl 1 rfl) ?_
  refine cL (As := []) (rest := []) S (metX0_small (w := w) hB) (cwV 0 hts (lw_V q177 q178 q179 q25 q180) rfl rfl rfl (by decide +kernel) ⟨Nat.le_of_ble_eq_true rfl, Nat.le_of_ble_eq_true rfl⟩) hK hPx hPm hDx hj hS hA rfl rfl rfl hl.1 rfl (Nat.le_of_ble_eq_true rfl) dL_law_404 ⟨Nat.le_of_ble_eq_true rfl, Nat.le_of_ble_eq_true rfl⟩ (fun r1 u1 H locs hu hPx hPm hDx hj hS => ?_)
  obtain ⟨hr1, hB⟩ := hu
  obtain rfl : r1 = aSmall w := hr1
  refine lv_aload_n hx hb dL_law_407 rfl (lv_at hl 2 rfl) ?_
  refine cL (As := []) (rest := [.int (aSmall w)]) S (metX1_small (w := w) hM) (cwV 0 hts (lw_V q305 q306 q307 q26 q308) rfl rfl rfl (by decide +kernel) ⟨Nat.le_of_ble_eq_true rfl, Nat.le_of_ble_eq_true rfl⟩) hK hPm hPx hDm hj.symm hS hA rfl rfl rfl hl.1 rfl (Nat.le_of_ble_eq_true rfl) dL_law_408 ⟨Nat.le_of_ble_eq_true rfl, Nat.le_of_ble_eq_true rfl⟩ (fun r2 u2 H locs hu hPm hPx hDm hj hS => ?_)
  obtain ⟨hr2, hM⟩ := hu
  obtain rfl : r2 = aSmall w := hr2
  refine lv_icmp_eq (tgt := 416) hx hb dL_law_411 (by decide) (fun _ => ?_) (fun hc => absurd rfl hc)
  exact hN _ u1 u2 _ _ _ ⟨hB, hM, hPx, hPm, hDx, hDm, hj.symm, hS, hl⟩
end
section
/-! the law's loop, and its start -/
set_option maxHeartbeats 4000000 in
set_option maxRecDepth 100000 in
theorem law_loop {p : Program} {l : Launch} {e : Env} {s : State} {m : MethodId} {below : List Frame} {meth : Method} {c : Code} {D : va_G} {d : ClassId} {gx gm : Nat → Nat} {b L : Nat} {xs : Nat → Int32} (hL : L ≤ 192) (S : CallFix p m c cL_law 4 s #[Value.ref b] lw_all R_law) (hr : meth.sig.returnType = ret) (hlocks : meth.locks = false) (hK : va_K D vwCl [(d, .int)] s) (hX : va_X b L xs s s.heap) (hbl : b < s.heap.size) :
    ∀ (n i : Nat), i ≤ L → L < i + n → lwG p l e s m below meth c D d gx gm b i 18 := by
  have hx := S.1
  have hb := S.2.1
  have hbA : ¬ lwA s b := Nat.not_le.mpr hbl
  intro n
  induction n with
  | zero =>
    intro i h1 h2
    exact absurd h2 (by omega)
  | succ n ih =>
    intro i hi hn w ux um H locs ls h
    obtain ⟨hB, hM, hPx, hPm, hDx, hDm, hj, hS, hl⟩ := id h
    refine lv_iload_n hx hb dL_law_18 rfl (lv_at hl 3 rfl) ?_
    refine lv_aload_n hx hb dL_law_19 rfl (lv_at hl 0 rfl) ?_
    refine va_slen hx hb hX hbl hbA hS dL_law_20 ?_
    refine lv_iconst (v := 3) hx hb dL_law_21 (by decide) ?_
    refine lv_isub hx hb dL_law_22 ?_
    refine tpi (y := iI ((L : Int) - 3)) (by rw [← iI_sub, ← nI_iI]; rfl) ?_
    refine z_gt (X := (i : Int)) (Y := (L : Int) - 3) (tgt := 422) hx hb dL_law_23 (by decide) (nI_toInt (by omega)) (iI_toInt (by omega) (by omega)) (fun hc => ?_) (fun hc => ?_)
    · refine lv_iconst (v := 1) hx hb dL_law_422 (by decide) ?_
      refine va_forget (fun q hq => hS.2.2 q hq) ?_
      refine W.widen (k := 600000) (n := 7290000) (Nat.le_of_ble_eq_true rfl) (Nat.le_of_ble_eq_true rfl) ?_
      exact lw_ret hx hb hr hlocks dL_law_423
    · have hi2 : i + 2 < L := by omega
      have hN : lwG p l e s m below meth c D d gx gm b i 416 := by
        intro w ux um H locs ls h
        obtain ⟨hB, hM, hPx, hPm, hDx, hDm, hj, hS, hl⟩ := h
        refine lv_iinc (v := nI (i + 3)) (lv' := [(3, .int (nI (i + 3))), (0, .ref b), (1, .ref (gx 0)), (2, .ref (gm 0))]) hx hb dL_law_416 hl (k := 3) rfl (nI_add i 3) (by decide) rfl (fun ls hl => ?_)
        refine lv_goto (tgt := 18) hx hb dL_law_419 (by decide) ?_
        exact ih (i + 3) (by omega) (by omega) w ux um H locs ls ⟨hB, hM, hPx, hPm, hDx, hDm, hj, hS, lv_sub hl [1, 2, 3, 0] rfl⟩
      refine lv_aload_n hx hb dL_law_26 rfl (lv_at hl 0 rfl) ?_
      refine lv_iload_n hx hb dL_law_27 rfl (lv_at hl 3 rfl) ?_
      refine xsld hx hb hX hbl hbA hS i rfl (by omega) (by omega) dL_law_28 ?_
      refine lv_bipush (v := 15) hx hb dL_law_29 (by decide) ?_
      refine lv_iand hx hb dL_law_31 ?_
      obtain ⟨k, hk, ek⟩ := and15 (xs i)
      refine tpi (y := nI k) ek ?_
      have hk' : k = 0 ∨ k = 1 ∨ k = 2 ∨ k = 3 ∨ k = 4 ∨ k = 5 ∨ k = 6 ∨ k = 7 ∨ k = 8 ∨ k = 9 ∨ k = 10 ∨ k = 11 ∨ k = 12 ∨ k = 13 ∨ k = 14 ∨ k = 15 := by omega
      rcases hk' with rfl | rfl | rfl | rfl | rfl | rfl | rfl | rfl | rfl | rfl | rfl | rfl | rfl | rfl | rfl | rfl
      · refine lv_tableIn (off := 72) (tgt := 104) hx hb dL_law_32 (by decide) (by decide) rfl (by decide) ?_
        exact lwc_0 S hK hX hbl hL hi2 hN w ux um H locs ls h
      · refine lv_tableIn (off := 105) (tgt := 137) hx hb dL_law_32 (by decide) (by decide) rfl (by decide) ?_
        exact lwc_1 S hK hX hbl hL hi2 hN w ux um H locs ls h
      · refine lv_tableIn (off := 138) (tgt := 170) hx hb dL_law_32 (by decide) (by decide) rfl (by decide) ?_
        exact lwc_2 S hK hX hbl hL hi2 hN w ux um H locs ls h
      · refine lv_tableIn (off := 161) (tgt := 193) hx hb dL_law_32 (by decide) (by decide) rfl (by decide) ?_
        exact lwc_3 S hK hX hbl hL hi2 hN w ux um H locs ls h
      · refine lv_tableIn (off := 184) (tgt := 216) hx hb dL_law_32 (by decide) (by decide) rfl (by decide) ?_
        exact lwc_4 S hK hX hbl hL hi2 hN w ux um H locs ls h
      · refine lv_tableIn (off := 207) (tgt := 239) hx hb dL_law_32 (by decide) (by decide) rfl (by decide) ?_
        exact lwc_5 S hK hX hbl hL hi2 hN w ux um H locs ls h
      · refine lv_tableIn (off := 220) (tgt := 252) hx hb dL_law_32 (by decide) (by decide) rfl (by decide) ?_
        exact lwc_6 S hK hX hbl hL hi2 hN w ux um H locs ls h
      · refine lv_tableIn (off := 243) (tgt := 275) hx hb dL_law_32 (by decide) (by decide) rfl (by decide) ?_
        exact lwc_7 S hK hX hbl hL hi2 hN w ux um H locs ls h
      · refine lv_tableIn (off := 266) (tgt := 298) hx hb dL_law_32 (by decide) (by decide) rfl (by decide) ?_
        exact lwc_8 S hK hX hbl hL hi2 hN w ux um H locs ls h
      · refine lv_tableIn (off := 279) (tgt := 311) hx hb dL_law_32 (by decide) (by decide) rfl (by decide) ?_
        exact lwc_9 S hK hX hbl hL hi2 hN w ux um H locs ls h
      · refine lv_tableIn (off := 302) (tgt := 334) hx hb dL_law_32 (by decide) (by decide) rfl (by decide) ?_
        exact lwc_10 S hK hX hbl hL hi2 hN w ux um H locs ls h
      · refine lv_tableIn (off := 325) (tgt := 357) hx hb dL_law_32 (by decide) (by decide) rfl (by decide) ?_
        exact lwc_11 S hK hX hbl hL hi2 hN w ux um H locs ls h
      · refine lv_tableIn (off := 348) (tgt := 380) hx hb dL_law_32 (by decide) (by decide) rfl (by decide) ?_
        exact lwc_12 S hK hX hbl hL hi2 hN w ux um H locs ls h
      · refine lv_tableIn (off := 371) (tgt := 403) hx hb dL_law_32 (by decide) (by decide) rfl (by decide) ?_
        exact lwc_13 S hK hX hbl hL hi2 hN w ux um H locs ls h
      · refine lv_tableOut (tgt := 416) hx hb dL_law_32 (by decide) (by decide) ?_
        exact hN w ux um H locs ls h
      · refine lv_tableOut (tgt := 416) hx hb dL_law_32 (by decide) (by decide) ?_
        exact hN w ux um H locs ls h
set_option maxHeartbeats 4000000 in
set_option maxRecDepth 100000 in
/-- YOUR PART: from the entry, for every script of at most 192 ints, the law comes to its end with true -/
theorem whole_start {p : Program} {e : Env} {s : State} {m : MethodId} {below : List Frame} {meth : Method} {c : Code} (l : Launch) {b L : Nat} {xs : Nat → Int32} (hL : L ≤ 192) (C0 : lw_At p s m meth c b L xs) : W p l e room_1 s m #[Value.ref b] below meth c s.heap [] 0 0 (lw_Z below #[Value.ref b] s) (entryFrame m ([Value.ref b] : List Value).toArray 4) := by
  obtain ⟨hx, hb, hr, hml, hown, hts0, hX, hbl, hlocks, hgv⟩ := C0
  have hts : ∀ w ∈ lw_all, w.before #[Value.ref b] s = true := fun w h => hts0 w (lw_all_tbl h)
  have S : CallFix p m c cL_law 4 s #[Value.ref b] lw_all R_law := ⟨hx, hb, hml, hown, hts⟩
  have hA : ∀ q : Nat, s.heap.size ≤ q → lwA s q := fun _ h => h
  obtain ⟨c0, iS0, hKn0⟩ := u_known (C := RX0) (T := TX0) (N := 10) (n := 10) hts in_X0 (hts _ q28)
  obtain ⟨c1, iS1, hKn1⟩ := u_known (C := RX1) (T := TX1) (N := 7) (n := 7) hts in_X1 (hts _ q182)
  obtain ⟨D, hKc⟩ : ∃ D : va_G, ∀ (k : Nat) (q : vw_C), vwCl[k]? = some q → u_Kn s q.1 q.2.1 q.2.2 (D.1 k) (D.2 k) := by
    refine ⟨(fun k => if k = 0 then c0 else c1, fun k => if k = 0 then iS0 else iS1), ?_⟩
    intro k q hq
    match k, hq with
    | 0, hq => cases hq; exact hKn0
    | 1, hq => cases hq; exact hKn1
    | k + 2, hq => simp [vwCl] at hq
  have hS : va_S (lwA s) s.heap s.heap [] := va_S.rf
  have hK : va_K D vwCl [] s := ⟨hKc, fun k q h => by simp at h⟩
  have hP : va_P D vwCl [] s.heap := fun k q h => by simp at h
  have hD : va_D (lwA s) [] := ⟨fun i j p q h => by simp at h, fun k q h => by simp at h⟩
  have hl := lv_entry ([.ref b]) (n := 4) (Nat.le_of_ble_eq_true rfl)
  rw [lg_entry_eq]
  generalize (lg_sl ([.ref b]) ++ List.replicate (4 - (lg_sl ([.ref b])).length) Slot.unset).toArray = ls at hl ⊢
  have hl : lv_has ls 4 [(0, .ref b)] := hl
  refine va_new (ci := 0) (fs := [.null, .null, .null, .null, .null, .null, .null, .null, .int 0, .int 0]) (C := RX0) (T := TX0) (N := 10) hx hb hts in_X0 tyX0 tyX0_ok hown (hts _ q27) (hts _ q28) (hts _ q25) hK hP hD hS hA rfl (fun j hj => by rcases (show j = 0 ∨ j = 1 ∨ j = 2 ∨ j = 3 ∨ j = 4 ∨ j = 5 ∨ j = 6 ∨ j = 7 ∨ j = 8 ∨ j = 9 by omega) with rfl | rfl | rfl | rfl | rfl | rfl | rfl | rfl | rfl | rfl <;> rfl) (Nat.le_of_ble_eq_true rfl) (Nat.le_of_ble_eq_true rfl) dL_law_0 (fun qx H hP hD hS => ?_)
  have hPn : va_P D vwCl [(qx, .inr (0, [.null, .null, .null, .null, .null, .null, .null, .null, .int 0, .int 0]))] H := hP
  have hDn : va_D (lwA s) [(qx, .inr (0, [.null, .null, .null, .null, .null, .null, .null, .null, .int 0, .int 0]))] := hD
  clear hP hD
  refine W.widen (k := 1) (n := 10) (Nat.le_of_ble_eq_true rfl) (Nat.le_of_ble_eq_true rfl) ?_
  refine lv_dup hx hb dL_law_3 rfl ?_
  refine cN (w2 := []) (tys := []) (rest := [.ref qx]) S metX0_init (cwI 0 hts (lw_meth q31) rfl rfl rfl (hts _ q25) (hts _ q29) (hts _ q30) rfl (by decide +kernel) ⟨Nat.le_of_ble_eq_true rfl, Nat.le_of_ble_eq_true rfl⟩) hK hPn (fun k q h => by simp at h) hDn (dj_nil _) hS hA hl.1 rfl (Nat.le_of_ble_eq_true rfl) dL_law_4 ⟨Nat.le_of_ble_eq_true rfl, Nat.le_of_ble_eq_true rfl⟩ (fun u H locs hu hP hK _ hD _ hS => ?_)
  clear hPn hDn
  obtain ⟨ux, gx, d⟩ := u
  obtain ⟨hg, hB⟩ := hu
  have hg : gx 0 = qx := hg
  subst hg
  have hB : InvB (fun _ => 0) ux := hB
  have hP : va_P D vwCl (wSB gx d ux) H := hP
  have hD : va_D (lwA s) (wSB gx d ux) := hD
  have hK : va_K D vwCl [(d, .int)] s := hK
  refine W.widen (k := 9) (n := 6613) (Nat.le_of_ble_eq_true rfl) (Nat.le_of_ble_eq_true rfl) ?_
  refine lv_astore_n (lv' := [(1, .ref (gx 0)), (0, .ref b)]) hx hb dL_law_7 rfl hl (by decide) rfl (fun ls hl => ?_)
  refine va_new (ci := 1) (fs := [.null, .int 0, .int 0, .int 0, .null, .null, .null]) (C := RX1) (T := TX1) (N := 7) hx hb hts in_X1 tyX1 tyX1_ok hown (hts _ q181) (hts _ q182) (hts _ q26) hK hP hD hS hA rfl (fun j hj => by rcases (show j = 0 ∨ j = 1 ∨ j = 2 ∨ j = 3 ∨ j = 4 ∨ j = 5 ∨ j = 6 by omega) with rfl | rfl | rfl | rfl | rfl | rfl | rfl <;> rfl) (Nat.le_of_ble_eq_true rfl) (Nat.le_of_ble_eq_true rfl) dL_law_8 (fun qm H hP hD hS => ?_)
  have hjn : dj [(qm, .inr (1, [.null, .int 0, .int 0, .int 0, .null, .null, .null]))] (wSB gx d ux) := dj_of_app hD
  have hPx : va_P D vwCl (wSB gx d ux) H := hP.sub [0, 1, 2, 3, 4, 5, 6, 7, 8] rfl
  have hDx : va_D (lwA s) (wSB gx d ux) := hD.sub [0, 1, 2, 3, 4, 5, 6, 7, 8] (by decide) rfl
  have hPn : va_P D vwCl [(qm, .inr (1, [.null, .int 0, .int 0, .int 0, .null, .null, .null]))] H := hP.sub [9] rfl
  have hDn : va_D (lwA s) [(qm, .inr (1, [.null, .int 0, .int 0, .int 0, .null, .null, .null]))] := hD.sub [9] (by decide) rfl
  refine W.widen (k := 10) (n := 6620) (Nat.le_of_ble_eq_true rfl) (Nat.le_of_ble_eq_true rfl) ?_
  refine lv_dup hx hb dL_law_11 rfl ?_
  refine cN (w2 := wSB gx d ux) (tys := [(d, .int)]) (rest := [.ref qm]) S metX1_init (cwI 0 hts (lw_meth q185) rfl rfl rfl (hts _ q26) (hts _ q183) (hts _ q184) rfl (by decide +kernel) ⟨Nat.le_of_ble_eq_true rfl, Nat.le_of_ble_eq_true rfl⟩) hK hPn hPx hDn hjn hS hA hl.1 rfl (Nat.le_of_ble_eq_true rfl) dL_law_12 ⟨Nat.le_of_ble_eq_true rfl, Nat.le_of_ble_eq_true rfl⟩ (fun u H locs hu hPm hKm hPx hDm hj hS => ?_)
  clear hPn hDn hjn
  obtain ⟨um, gm, d2⟩ := u
  obtain ⟨hg, hM⟩ := hu
  have hg : gm 0 = qm := hg
  subst hg
  have hM : InvM (fun _ => 0) um := hM
  have hKm : va_K D vwCl [(d2, .int)] s := hKm
  obtain rfl := one_cA hK hKm
  have hPm : va_P D vwCl (wSM gm d um) H := hPm
  have hDm : va_D (lwA s) (wSM gm d um) := hDm
  have hj : dj (wSM gm d um) (wSB gx d ux) := hj
  refine W.widen (k := 14) (n := 42239) (Nat.le_of_ble_eq_true rfl) (Nat.le_of_ble_eq_true rfl) ?_
  refine lv_astore_n (lv' := [(2, .ref (gm 0)), (1, .ref (gx 0)), (0, .ref b)]) hx hb dL_law_15 rfl hl (by decide) rfl (fun ls hl => ?_)
  refine lv_iconst (v := 0) hx hb dL_law_16 (by decide) ?_
  refine tpi (y := nI 0) rfl ?_
  refine lv_istore_n (lv' := [(3, .int (nI 0)), (2, .ref (gm 0)), (1, .ref (gx 0)), (0, .ref b)]) hx hb dL_law_17 rfl hl (by decide) rfl (fun ls hl => ?_)
  exact law_loop hL S hr hlocks hK hX hbl (L + 1) 0 (Nat.zero_le _) (by omega) _ ux um _ _ _ ⟨hB, hM, hPx, hPm, hDx, hDm, hj.symm, hS, lv_sub hl [3, 2, 1, 0] rfl⟩
end
section
/-! the claim (the skeleton's end, a starting text) -/
set_option maxHeartbeats 4000000 in
theorem lw_walk (l : Launch) (b : Addr) (xs : List Int32) : MetFree l x (headSpec (Jvm.Cond.code x code maxLocals ret :: tables_1) room_1) (lw_P b xs) (fun _ _ _ _ _ => True) lw_Q := by
  refine MetFree.of_bodyS (code := code) (maxLocals := maxLocals) (ret := ret) (by decide) ?_ ?_
  · intro args s m h hn
    obtain ⟨meth, c, h1, h2, h3, h4, h5, h6, -, -⟩ := Cond.code_spec hn (atoms_spec (ws := Jvm.Cond.code x code maxLocals ret :: tables_1) h _ List.mem_cons_self)
    exact ⟨meth, c, h1, h2, h3, h4, h5, h6⟩
  · intro p e s m args below meth c s₁ B hml0 hP _
    obtain ⟨rfl, hx, hbd, hgv⟩ := hP
    obtain ⟨scr, harrAt, hlist, hof, hsmall⟩ := hx
    obtain ⟨hcb, hkn, -, -⟩ := State.arrayAt?_spec harrAt
    have hown : s.vm.findClass R_law = some m.cls := findClass_of_methodNamed B.named
    have hts0 : ∀ c ∈ (Jvm.Cond.code x code maxLocals ret :: tables_1), c.before #[Value.ref b] s = true := atoms_spec (ws := Jvm.Cond.code x code maxLocals ret :: tables_1) B.pre
    have hts : ∀ w ∈ lw_tbl, w.before #[Value.ref b] s = true := k2_hts_sels lw_privs (fun w hw => hts0 w (List.mem_cons_of_mem _ hw)) lw_privs_ok
    have hml : c.maxLocals = 4 := B.maxLocals_eq (hts0 _ List.mem_cons_self)
    have X₀ : Stand p l e room_1 s m #[Value.ref b] below meth c s₁ [] 0 0 := Stand.of_body B
    have hh0 : s₁.heap = s.heap := by rw [B.state]; rfl
    have hsz : scr.slots.size = xs.length := by rw [← Array.length_toList, hlist, List.length_map]
    have hval : ∀ j : Nat, j < xs.length → scr.slots[j]? = some (.int (xs.getD j 0)) := fun j hj => by
      rw [← Array.getElem?_toList, hlist]
      simp [hj]
    have hbl : b < s.heap.size := (Array.getElem?_eq_some_iff.mp hcb).1
    have hX : va_X b xs.length (fun j => xs.getD j 0) s s.heap := ⟨scr, hcb, hof, hkn, hsz, hval⟩
    have K : W p l e room_1 s m #[Value.ref b] below meth c s₁.heap [] 0 0 (lw_Z below #[Value.ref b] s) (entryFrame m ([Value.ref b] : List Value).toArray 4) := by
      rw [hh0]
      exact whole_start l hbd ⟨B.exec, B.bytes, B.returns, hml, hown, hts, hX, hbl, B.notSynchronized, hgv⟩
    obtain ⟨t, a1, o, b1, b2, b3⟩ := K s₁ rfl X₀
    exact ⟨t, o, a1, b1, b2, b3⟩
theorem lw_pre_spec {args : Array Value} {s : State} (h : (Jvm.Cond.and given_1 narrow_1).before args s = true) (hr : rest_1_c.before args s = true) : ∃ (b : Addr) (xs : List Int32), lw_P b xs args s := by
  have hs := flat_of_before _ h
  have hq := flat_of_before _ hr
  have hc : (Cond.count 1).before args s = true := hs _ (by decide +kernel)
  have harr : (Cond.arrayOf (.arg 0) .int).before args s = true := hs _ (by decide +kernel)
  have hle : (Cond.le (.length (.arg 0)) (.int 192)).before args s = true := hs _ (by decide +kernel)
  have hlen : (Cond.isInt (.length (.arg 0))).before args s = true := hq _ (by decide +kernel)
  have hall : (Cond.all (.arg 0) (.isInt (.elem (.arg 0) (.index 0)))).before args s = true := hq _ (by decide +kernel)
  obtain ⟨b, xs, hb, hx⟩ := State.ints_of_pre rfl harr hlen hall
  have hsm : xs.length < 2 ^ 31 := hx.choose_spec.2.2.2
  have hev : (Term.length (.arg 0)).eval args s none [] s = some (.int xs.length.toInt32) := hx.length_eval hb
  have hv := Cond.le_ints hev (show (Term.int 192).eval args s none [] s = some (.int 192) from rfl)
  have hd : xs.length.toInt32 ≤ 192 := by
    simpa [Cond.before, Cond.holds, hv] using hle
  have hN : xs.length ≤ 192 := (Int32.ofNat_le_ofNat hsm (by decide)).mp (show Int32.ofNat xs.length ≤ Int32.ofNat 192 from hd)
  exact ⟨b, xs, Cond.one_arg hc (show args[0]? = some (.ref b) from hb), hx, hN, h⟩
theorem lw_comes (l : Launch) : Comes l x (Jvm.Cond.code x code maxLocals ret :: tables_1) room_1 (fun tb e args s => Calls_1 tb e args s ∧ rest_1 tb e args s ∧ Pre_1 tb e args s)
    (fun _ _ args s o t => lw_Q args s o t) := by
  intro p e ha hc hk s m args below hf hfit hheap happ hpre
  obtain ⟨b, xs, hP⟩ := lw_pre_spec hpre.2.2 hpre.2.1
  obtain ⟨k, o, h1, h2, h3, hQ⟩ := lw_walk l b xs p e ha hc hk s m args below hf ((Spec.applies_iff_loose hf).mp happ).1 hP trivial
  exact ⟨k, o, h1, h2, h3, hQ⟩
theorem lw_frame {s t : State} {o : Outcome} {args : Array Value} (h : Framed s o t [] 600000 7290000) :
    Framed s o t (fieldLocs frame_1_writes args s ++ arrayLocs frame_1_arrays args s ++ staticLocs frame_1_statics s) 600000 7290000 := h
theorem lw_limb (L : Cond) (hL : ∀ (args : Array Value) (s t : State), L.after args s (.returned (some (.int 1))) t = true) :
    ArmFor flags0 classFile x code maxLocals ret World_1 tables_1 room_1 Calls_1 rest_1 Pre_1
      (fun tb e a s o t => postC L tb e a s o t ∧ Framed s o t (fieldLocs frame_1_writes a s ++ arrayLocs frame_1_arrays a s ++ staticLocs frame_1_statics s) 600000 7290000) := by
  intro l _ _ _ p e ha hc hk s m args below hf hfit hheap happ hpre
  obtain ⟨k, o, h1, h2, h3, rfl, hF⟩ := lw_comes l p e ha hc hk s m args below hf hfit hheap happ hpre
  exact ⟨k, _, h1, h2, h3, hL args s _, lw_frame hF⟩
theorem i_vc : Claimed_1_1 ∧ Claimed_1_2 := ⟨lw_limb limb_1_1 (fun args s t => by simp [limb_1_1, Cond.after, Cond.holds, Cond.value]), lw_limb limb_1_2 (fun args s t => Cond.after_iff.mpr (by
  first | (rw [show limb_1_2 = Cond.eq .result (.int 1) from rfl, Cond.eq_ints (x := 1) (y := 1) rfl rfl]; simp; done) | (simp [limb_1_2, Cond.value, Term.eval]; done)))⟩
end
