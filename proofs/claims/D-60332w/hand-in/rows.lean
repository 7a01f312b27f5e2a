section
-- ===== PART A: goes FIRST, ahead of the names: the tables' words, and 'selects' of the private methods out of them =====
/-- a private method of a class that the tables say can be made, by its rows of tables_1 -/
def lw_okq (q : MethodName × Nat) : Prop := (q.1.cls ≠ "java/lang/invoke/MethodHandle" ∧ q.1.cls ≠ "java/lang/invoke/VarHandle") ∧ Cond.instantiable q.1.cls q.2 ∈ tables_1 ∧ Cond.privateMethod q.1 ∈ tables_1 ∧ Cond.instanceMethod q.1 ∈ tables_1
set_option maxRecDepth 100000
theorem lw_t1 {w : Cond} (h : w ∈ tables_1_1) : w ∈ tables_1 := List.mem_append_left _ h
theorem lw_t2 {w : Cond} (h : w ∈ tables_1_2) : w ∈ tables_1 := List.mem_append_right _ h
theorem lw_p0 : lw_okq (⟨"ChainCover", "isSet", "(I)Z"⟩, 11) := ⟨⟨by decide +kernel, by decide +kernel⟩, lw_t1 (List.mem_of_getElem? (i := 4) rfl), lw_t1 (List.mem_of_getElem? (i := 52) rfl), lw_t1 (List.mem_of_getElem? (i := 53) rfl)⟩
theorem lw_p1 : lw_okq (⟨"ChainCover", "matchOneMore", "()V"⟩, 11) := ⟨⟨by decide +kernel, by decide +kernel⟩, lw_t1 (List.mem_of_getElem? (i := 4) rfl), lw_t1 (List.mem_of_getElem? (i := 56) rfl), lw_t1 (List.mem_of_getElem? (i := 57) rfl)⟩
theorem lw_p2 : lw_okq (⟨"ChainCover", "loadKept", "()V"⟩, 11) := ⟨⟨by decide +kernel, by decide +kernel⟩, lw_t1 (List.mem_of_getElem? (i := 4) rfl), lw_t1 (List.mem_of_getElem? (i := 60) rfl), lw_t1 (List.mem_of_getElem? (i := 61) rfl)⟩
theorem lw_p3 : lw_okq (⟨"ChainCover", "augment", "(II)Z"⟩, 11) := ⟨⟨by decide +kernel, by decide +kernel⟩, lw_t1 (List.mem_of_getElem? (i := 4) rfl), lw_t1 (List.mem_of_getElem? (i := 64) rfl), lw_t1 (List.mem_of_getElem? (i := 65) rfl)⟩
theorem lw_p4 : lw_okq (⟨"ChainCover", "turnPath", "(II)V"⟩, 11) := ⟨⟨by decide +kernel, by decide +kernel⟩, lw_t1 (List.mem_of_getElem? (i := 4) rfl), lw_t1 (List.mem_of_getElem? (i := 68) rfl), lw_t1 (List.mem_of_getElem? (i := 69) rfl)⟩
theorem lw_p5 : lw_okq (⟨"ChainCover", "storeKept", "()V"⟩, 11) := ⟨⟨by decide +kernel, by decide +kernel⟩, lw_t1 (List.mem_of_getElem? (i := 4) rfl), lw_t1 (List.mem_of_getElem? (i := 72) rfl), lw_t1 (List.mem_of_getElem? (i := 73) rfl)⟩
theorem lw_p6 : lw_okq (⟨"ChainCover", "exchangeSets", "(II)V"⟩, 11) := ⟨⟨by decide +kernel, by decide +kernel⟩, lw_t1 (List.mem_of_getElem? (i := 4) rfl), lw_t1 (List.mem_of_getElem? (i := 84) rfl), lw_t1 (List.mem_of_getElem? (i := 85) rfl)⟩
theorem lw_p7 : lw_okq (⟨"ChainCover", "reversed", "(II)I"⟩, 11) := ⟨⟨by decide +kernel, by decide +kernel⟩, lw_t1 (List.mem_of_getElem? (i := 4) rfl), lw_t1 (List.mem_of_getElem? (i := 88) rfl), lw_t1 (List.mem_of_getElem? (i := 89) rfl)⟩
theorem lw_p8 : lw_okq (⟨"ChainCover", "isElement", "(I)Z"⟩, 11) := ⟨⟨by decide +kernel, by decide +kernel⟩, lw_t1 (List.mem_of_getElem? (i := 4) rfl), lw_t1 (List.mem_of_getElem? (i := 100) rfl), lw_t1 (List.mem_of_getElem? (i := 101) rfl)⟩
theorem lw_p9 : lw_okq (⟨"ChainCover", "bitsIn", "(I)I"⟩, 11) := ⟨⟨by decide +kernel, by decide +kernel⟩, lw_t1 (List.mem_of_getElem? (i := 4) rfl), lw_t1 (List.mem_of_getElem? (i := 108) rfl), lw_t1 (List.mem_of_getElem? (i := 109) rfl)⟩
theorem lw_p10 : lw_okq (⟨"ChainCover", "couplesWithin", "(I)I"⟩, 11) := ⟨⟨by decide +kernel, by decide +kernel⟩, lw_t1 (List.mem_of_getElem? (i := 4) rfl), lw_t1 (List.mem_of_getElem? (i := 112) rfl), lw_t1 (List.mem_of_getElem? (i := 113) rfl)⟩
theorem lw_p11 : lw_okq (⟨"ChainCover", "matchAll", "()V"⟩, 11) := ⟨⟨by decide +kernel, by decide +kernel⟩, lw_t1 (List.mem_of_getElem? (i := 4) rfl), lw_t1 (List.mem_of_getElem? (i := 116) rfl), lw_t1 (List.mem_of_getElem? (i := 117) rfl)⟩
theorem lw_p12 : lw_okq (⟨"ChainCover", "pairUp", "(I)V"⟩, 11) := ⟨⟨by decide +kernel, by decide +kernel⟩, lw_t1 (List.mem_of_getElem? (i := 4) rfl), lw_t1 (List.mem_of_getElem? (i := 120) rfl), lw_t1 (List.mem_of_getElem? (i := 121) rfl)⟩
theorem lw_p13 : lw_okq (⟨"ChainCover", "longestUnder", "(II)I"⟩, 11) := ⟨⟨by decide +kernel, by decide +kernel⟩, lw_t1 (List.mem_of_getElem? (i := 4) rfl), lw_t1 (List.mem_of_getElem? (i := 132) rfl), lw_t1 (List.mem_of_getElem? (i := 133) rfl)⟩
theorem lw_p14 : lw_okq (⟨"ChainCoverModel", "isSet", "(I)Z"⟩, 3) := ⟨⟨by decide +kernel, by decide +kernel⟩, lw_t1 (List.mem_of_getElem? (i := 153) rfl), lw_t1 (List.mem_of_getElem? (i := 173) rfl), lw_t1 (List.mem_of_getElem? (i := 174) rfl)⟩
theorem lw_p15 : lw_okq (⟨"ChainCoverModel", "in", "(II)Z"⟩, 3) := ⟨⟨by decide +kernel, by decide +kernel⟩, lw_t1 (List.mem_of_getElem? (i := 153) rfl), lw_t1 (List.mem_of_getElem? (i := 177) rfl), lw_t1 (List.mem_of_getElem? (i := 178) rfl)⟩
def lw_privs_1 : List (MethodName × Nat) := [(⟨"ChainCover", "isSet", "(I)Z"⟩, 11), (⟨"ChainCover", "matchOneMore", "()V"⟩, 11), (⟨"ChainCover", "loadKept", "()V"⟩, 11), (⟨"ChainCover", "augment", "(II)Z"⟩, 11), (⟨"ChainCover", "turnPath", "(II)V"⟩, 11), (⟨"ChainCover", "storeKept", "()V"⟩, 11), (⟨"ChainCover", "exchangeSets", "(II)V"⟩, 11), (⟨"ChainCover", "reversed", "(II)I"⟩, 11), (⟨"ChainCover", "isElement", "(I)Z"⟩, 11), (⟨"ChainCover", "bitsIn", "(I)I"⟩, 11), (⟨"ChainCover", "couplesWithin", "(I)I"⟩, 11), (⟨"ChainCover", "matchAll", "()V"⟩, 11), (⟨"ChainCover", "pairUp", "(I)V"⟩, 11), (⟨"ChainCover", "longestUnder", "(II)I"⟩, 11), (⟨"ChainCoverModel", "isSet", "(I)Z"⟩, 3), (⟨"ChainCoverModel", "in", "(II)Z"⟩, 3)]
theorem lw_r1 : ∀ q ∈ lw_privs_1, lw_okq q := List.forall_mem_cons.mpr ⟨lw_p0, List.forall_mem_cons.mpr ⟨lw_p1, List.forall_mem_cons.mpr ⟨lw_p2, List.forall_mem_cons.mpr ⟨lw_p3, List.forall_mem_cons.mpr ⟨lw_p4, List.forall_mem_cons.mpr ⟨lw_p5, List.forall_mem_cons.mpr ⟨lw_p6, List.forall_mem_cons.mpr ⟨lw_p7, List.forall_mem_cons.mpr ⟨lw_p8, List.forall_mem_cons.mpr ⟨lw_p9, List.forall_mem_cons.mpr ⟨lw_p10, List.forall_mem_cons.mpr ⟨lw_p11, List.forall_mem_cons.mpr ⟨lw_p12, List.forall_mem_cons.mpr ⟨lw_p13, List.forall_mem_cons.mpr ⟨lw_p14, List.forall_mem_cons.mpr ⟨lw_p15, fun _ h => absurd h List.not_mem_nil⟩⟩⟩⟩⟩⟩⟩⟩⟩⟩⟩⟩⟩⟩⟩⟩
theorem lw_p16 : lw_okq (⟨"ChainCoverModel", "largest", "(IZ)I"⟩, 3) := ⟨⟨by decide +kernel, by decide +kernel⟩, lw_t1 (List.mem_of_getElem? (i := 153) rfl), lw_t1 (List.mem_of_getElem? (i := 201) rfl), lw_t1 (List.mem_of_getElem? (i := 202) rfl)⟩
theorem lw_p17 : lw_okq (⟨"ChainCoverModel", "sizeOf", "(I)I"⟩, 3) := ⟨⟨by decide +kernel, by decide +kernel⟩, lw_t1 (List.mem_of_getElem? (i := 153) rfl), lw_t1 (List.mem_of_getElem? (i := 205) rfl), lw_t1 (List.mem_of_getElem? (i := 206) rfl)⟩
theorem lw_p18 : lw_okq (⟨"ChainCoverModel", "uniform", "(IZ)Z"⟩, 3) := ⟨⟨by decide +kernel, by decide +kernel⟩, lw_t1 (List.mem_of_getElem? (i := 153) rfl), lw_t1 (List.mem_of_getElem? (i := 209) rfl), lw_t1 (List.mem_of_getElem? (i := 210) rfl)⟩
theorem lw_p19 : lw_okq (⟨"ChainCoverModel", "extreme", "(Z)I"⟩, 3) := ⟨⟨by decide +kernel, by decide +kernel⟩, lw_t1 (List.mem_of_getElem? (i := 153) rfl), lw_t1 (List.mem_of_getElem? (i := 225) rfl), lw_t1 (List.mem_of_getElem? (i := 226) rfl)⟩
theorem lw_p20 : lw_okq (⟨"ChainCoverModel", "findLargest", "()V"⟩, 3) := ⟨⟨by decide +kernel, by decide +kernel⟩, lw_t1 (List.mem_of_getElem? (i := 153) rfl), lw_t1 (List.mem_of_getElem? (i := 229) rfl), lw_t1 (List.mem_of_getElem? (i := 230) rfl)⟩
theorem lw_p21 : lw_okq (⟨"ChainCoverModel", "isExtreme", "(IZ)Z"⟩, 3) := ⟨⟨by decide +kernel, by decide +kernel⟩, lw_t1 (List.mem_of_getElem? (i := 153) rfl), lw_t1 (List.mem_of_getElem? (i := 234) rfl), lw_t1 (List.mem_of_getElem? (i := 235) rfl)⟩
theorem lw_p22 : lw_okq (⟨"ChainCoverModel", "allBelow", "(II)Z"⟩, 3) := ⟨⟨by decide +kernel, by decide +kernel⟩, lw_t1 (List.mem_of_getElem? (i := 153) rfl), lw_t1 (List.mem_of_getElem? (i := 238) rfl), lw_t1 (List.mem_of_getElem? (i := 239) rfl)⟩
theorem lw_p23 : lw_okq (⟨"ChainCoverModel", "someAbove", "(II)Z"⟩, 3) := ⟨⟨by decide +kernel, by decide +kernel⟩, lw_t1 (List.mem_of_getElem? (i := 153) rfl), lw_t2 (List.mem_of_getElem? (i := 2) rfl), lw_t2 (List.mem_of_getElem? (i := 3) rfl)⟩
theorem lw_p24 : lw_okq (⟨"ChainCoverModel", "allAbove", "(II)Z"⟩, 3) := ⟨⟨by decide +kernel, by decide +kernel⟩, lw_t1 (List.mem_of_getElem? (i := 153) rfl), lw_t2 (List.mem_of_getElem? (i := 6) rfl), lw_t2 (List.mem_of_getElem? (i := 7) rfl)⟩
def lw_privs_2 : List (MethodName × Nat) := [(⟨"ChainCoverModel", "largest", "(IZ)I"⟩, 3), (⟨"ChainCoverModel", "sizeOf", "(I)I"⟩, 3), (⟨"ChainCoverModel", "uniform", "(IZ)Z"⟩, 3), (⟨"ChainCoverModel", "extreme", "(Z)I"⟩, 3), (⟨"ChainCoverModel", "findLargest", "()V"⟩, 3), (⟨"ChainCoverModel", "isExtreme", "(IZ)Z"⟩, 3), (⟨"ChainCoverModel", "allBelow", "(II)Z"⟩, 3), (⟨"ChainCoverModel", "someAbove", "(II)Z"⟩, 3), (⟨"ChainCoverModel", "allAbove", "(II)Z"⟩, 3)]
theorem lw_r2 : ∀ q ∈ lw_privs_2, lw_okq q := List.forall_mem_cons.mpr ⟨lw_p16, List.forall_mem_cons.mpr ⟨lw_p17, List.forall_mem_cons.mpr ⟨lw_p18, List.forall_mem_cons.mpr ⟨lw_p19, List.forall_mem_cons.mpr ⟨lw_p20, List.forall_mem_cons.mpr ⟨lw_p21, List.forall_mem_cons.mpr ⟨lw_p22, List.forall_mem_cons.mpr ⟨lw_p23, List.forall_mem_cons.mpr ⟨lw_p24, fun _ h => absurd h List.not_mem_nil⟩⟩⟩⟩⟩⟩⟩⟩⟩
def lw_privs : List (MethodName × Nat) := lw_privs_1 ++ (lw_privs_2)
def lw_tbl : List Cond := k2_sels lw_privs ++ tables_1
theorem lw_privs_ok : ∀ q ∈ lw_privs, lw_okq q := by
  show ∀ q ∈ lw_privs_1 ++ (lw_privs_2), lw_okq q
  exact List.forall_mem_append.mpr ⟨lw_r1, lw_r2⟩
-- ===== ONE list of words for every method: the tables' words that hold all through a run =====
def lw_all : List Cond := lw_tbl.filter goodWord
/-- a word of the tables by its place: claim/WORDS.tsv -/
theorem lw_w {w : Cond} (i : Nat) (h : lw_tbl[i]? = some w) (g : goodWord w = true) : w ∈ lw_all := List.mem_filter.mpr ⟨List.mem_of_getElem? h, g⟩
theorem lw_all_tbl {w : Cond} (h : w ∈ lw_all) : w ∈ lw_tbl := (List.mem_filter.mp h).1
theorem lw_self : GoodIn lw_all lw_all := fun w h => ⟨h, good_of_word (List.mem_filter.mp h).2⟩
/-- a class's field words, by their places -/
theorem lw_in (ws : List Cond) (ps : List Nat) (hp : ws = ps.filterMap (fun i => lw_tbl[i]?)) (hg : ws.all goodWord = true) : ∀ w ∈ ws, w ∈ lw_all := by
  intro w h
  have h1 := List.all_eq_true.mp hg w h
  rw [hp] at h
  obtain ⟨i, -, hi⟩ := List.mem_filterMap.mp h
  exact lw_w i hi h1
/-- the words of a contract for the method y with code b, L locals, answer r -/
abbrev ws_ (y : MethodName) (b : ByteArray) (L : Nat) (r : Option FieldType) : List Cond := Cond.code y b L r :: lw_all
theorem lw_meth {y : MethodName} {b : ByteArray} {L : Nat} {r : Option FieldType} (h : Cond.code y b L r ∈ lw_all) : GoodIn lw_all (ws_ y b L r) := by
  intro w hw
  rcases List.mem_cons.mp hw with e | e
  · rw [e]
    exact lw_self _ h
  · exact lw_self _ e
theorem lw_app {a c : List Cond} (ha : ∀ w ∈ a, w ∈ lw_all) (hc : GoodIn lw_all c) : GoodIn lw_all (a ++ c) := by
  intro w hw
  rcases List.mem_append.mp hw with e | e
  · exact lw_self w (ha w e)
  · exact hc w e
/-- what a call through an object asks: cwV n hts (lw_V ..) -/
theorem lw_V {own : String} {idx : Nat} {C : String} {y : MethodName} {b : ByteArray} {L : Nat} {r : Option FieldType} (h1 : Cond.methodLink own idx y ∈ lw_all) (h2 : Cond.instanceMethod y ∈ lw_all) (h3 : Cond.selects C y y ∈ lw_all) (h4 : Cond.initialized C ∈ lw_all) (h5 : Cond.code y b L r ∈ lw_all) : GoodIn lw_all (wsV own idx C y (ws_ y b L r)) := by
  refine lw_app ?_ (lw_meth h5)
  intro w hw
  simp only [List.mem_cons, List.not_mem_nil, or_false] at hw
  rcases hw with e | e | e | e
  · rw [e]; exact h1
  · rw [e]; exact h2
  · rw [e]; exact h3
  · rw [e]; exact h4
/-- what a static call asks: va_cwS n hts (lw_S ..) -/
theorem lw_S {own : String} {idx : Nat} {y : MethodName} {b : ByteArray} {L : Nat} {r : Option FieldType} (h1 : Cond.methodLink own idx y ∈ lw_all) (h2 : Cond.static y ∈ lw_all) (h3 : Cond.initialized y.cls ∈ lw_all) (h4 : Cond.code y b L r ∈ lw_all) : GoodIn lw_all (va_wsS own idx y (ws_ y b L r)) := by
  refine lw_app ?_ (lw_meth h4)
  intro w hw
  simp only [List.mem_cons, List.not_mem_nil, or_false] at hw
  rcases hw with e | e | e
  · rw [e]; exact h1
  · rw [e]; exact h2
  · rw [e]; exact h3
/-- the words of a contract for a method WITH HANDLERS (hh: its table) -/
abbrev wsW_ (y : MethodName) (b : ByteArray) (L : Nat) (r : Option FieldType) (hh : List (Nat × Nat × Nat × Nat)) : List Cond := Cond.codeWith y b L r hh :: lw_all
theorem lw_methW {y : MethodName} {b : ByteArray} {L : Nat} {r : Option FieldType} {hh : List (Nat × Nat × Nat × Nat)} (h : Cond.codeWith y b L r hh ∈ lw_all) : GoodIn lw_all (wsW_ y b L r hh) := by
  intro w hw
  rcases List.mem_cons.mp hw with e | e
  · rw [e]
    exact lw_self _ h
  · exact lw_self _ e
/-- any list of words by their places (lw_in), good -/
theorem lw_good {ws : List Cond} (h : ∀ w ∈ ws, w ∈ lw_all) : GoodIn lw_all ws := fun w hw => lw_self w (h w hw)
/-- what a call of a method with handlers asks: vx_cwVW n hts (lw_VW ..), vx_cwSW n hts (lw_SW ..) -/
theorem lw_VW {own : String} {idx : Nat} {C : String} {y : MethodName} {b : ByteArray} {L : Nat} {r : Option FieldType} {hh : List (Nat × Nat × Nat × Nat)} (h1 : Cond.methodLink own idx y ∈ lw_all) (h2 : Cond.instanceMethod y ∈ lw_all) (h3 : Cond.selects C y y ∈ lw_all) (h4 : Cond.initialized C ∈ lw_all) (h5 : Cond.codeWith y b L r hh ∈ lw_all) : GoodIn lw_all (wsV own idx C y (wsW_ y b L r hh)) := by
  refine lw_app ?_ (lw_methW h5)
  intro w hw
  simp only [List.mem_cons, List.not_mem_nil, or_false] at hw
  rcases hw with e | e | e | e
  · rw [e]; exact h1
  · rw [e]; exact h2
  · rw [e]; exact h3
  · rw [e]; exact h4
theorem lw_SW {own : String} {idx : Nat} {y : MethodName} {b : ByteArray} {L : Nat} {r : Option FieldType} {hh : List (Nat × Nat × Nat × Nat)} (h1 : Cond.methodLink own idx y ∈ lw_all) (h2 : Cond.static y ∈ lw_all) (h3 : Cond.initialized y.cls ∈ lw_all) (h4 : Cond.codeWith y b L r hh ∈ lw_all) : GoodIn lw_all (va_wsS own idx y (wsW_ y b L r hh)) := by
  refine lw_app ?_ (lw_methW h4)
  intro w hw
  simp only [List.mem_cons, List.not_mem_nil, or_false] at hw
  rcases hw with e | e | e
  · rw [e]; exact h1
  · rw [e]; exact h2
  · rw [e]; exact h3
/-- a word by its place in its run of the tables -/
theorem lw_at {r : List Cond} (hr : ∀ w ∈ r, w ∈ lw_tbl) {w : Cond} (i : Nat) (h : r[i]? = some w) : w ∈ lw_tbl := hr w (List.mem_of_getElem? h)
theorem lw_g {w : Cond} (h : w ∈ lw_tbl) (g : goodWord w = true) : w ∈ lw_all := List.mem_filter.mpr ⟨h, g⟩
theorem lw_ms : ∀ w ∈ k2_sels lw_privs, w ∈ lw_tbl := fun w h => show w ∈ k2_sels lw_privs ++ tables_1 from List.mem_append_left _ h
theorem lw_m1 : ∀ w ∈ tables_1_1, w ∈ lw_tbl := fun w h => show w ∈ k2_sels lw_privs ++ tables_1 from List.mem_append_right (k2_sels lw_privs) (show w ∈ tables_1 from List.mem_append_left _ h)
theorem lw_m2 : ∀ w ∈ tables_1_2, w ∈ lw_tbl := fun w h => show w ∈ k2_sels lw_privs ++ tables_1 from List.mem_append_right (k2_sels lw_privs) (show w ∈ tables_1 from List.mem_append_right _ h)
theorem qs0 : (Cond.selects "ChainCover" ⟨"ChainCover", "isSet", "(I)Z"⟩ ⟨"ChainCover", "isSet", "(I)Z"⟩) ∈ lw_all := lw_g (lw_at lw_ms 0 rfl) rfl
theorem qs1 : (Cond.selects "ChainCover" ⟨"ChainCover", "matchOneMore", "()V"⟩ ⟨"ChainCover", "matchOneMore", "()V"⟩) ∈ lw_all := lw_g (lw_at lw_ms 1 rfl) rfl
theorem qs2 : (Cond.selects "ChainCover" ⟨"ChainCover", "loadKept", "()V"⟩ ⟨"ChainCover", "loadKept", "()V"⟩) ∈ lw_all := lw_g (lw_at lw_ms 2 rfl) rfl
theorem qs3 : (Cond.selects "ChainCover" ⟨"ChainCover", "augment", "(II)Z"⟩ ⟨"ChainCover", "augment", "(II)Z"⟩) ∈ lw_all := lw_g (lw_at lw_ms 3 rfl) rfl
theorem qs4 : (Cond.selects "ChainCover" ⟨"ChainCover", "turnPath", "(II)V"⟩ ⟨"ChainCover", "turnPath", "(II)V"⟩) ∈ lw_all := lw_g (lw_at lw_ms 4 rfl) rfl
theorem qs5 : (Cond.selects "ChainCover" ⟨"ChainCover", "storeKept", "()V"⟩ ⟨"ChainCover", "storeKept", "()V"⟩) ∈ lw_all := lw_g (lw_at lw_ms 5 rfl) rfl
theorem qs6 : (Cond.selects "ChainCover" ⟨"ChainCover", "exchangeSets", "(II)V"⟩ ⟨"ChainCover", "exchangeSets", "(II)V"⟩) ∈ lw_all := lw_g (lw_at lw_ms 6 rfl) rfl
theorem qs7 : (Cond.selects "ChainCover" ⟨"ChainCover", "reversed", "(II)I"⟩ ⟨"ChainCover", "reversed", "(II)I"⟩) ∈ lw_all := lw_g (lw_at lw_ms 7 rfl) rfl
theorem qs8 : (Cond.selects "ChainCover" ⟨"ChainCover", "isElement", "(I)Z"⟩ ⟨"ChainCover", "isElement", "(I)Z"⟩) ∈ lw_all := lw_g (lw_at lw_ms 8 rfl) rfl
theorem qs9 : (Cond.selects "ChainCover" ⟨"ChainCover", "bitsIn", "(I)I"⟩ ⟨"ChainCover", "bitsIn", "(I)I"⟩) ∈ lw_all := lw_g (lw_at lw_ms 9 rfl) rfl
theorem qs10 : (Cond.selects "ChainCover" ⟨"ChainCover", "couplesWithin", "(I)I"⟩ ⟨"ChainCover", "couplesWithin", "(I)I"⟩) ∈ lw_all := lw_g (lw_at lw_ms 10 rfl) rfl
theorem qs11 : (Cond.selects "ChainCover" ⟨"ChainCover", "matchAll", "()V"⟩ ⟨"ChainCover", "matchAll", "()V"⟩) ∈ lw_all := lw_g (lw_at lw_ms 11 rfl) rfl
theorem qs12 : (Cond.selects "ChainCover" ⟨"ChainCover", "pairUp", "(I)V"⟩ ⟨"ChainCover", "pairUp", "(I)V"⟩) ∈ lw_all := lw_g (lw_at lw_ms 12 rfl) rfl
theorem qs13 : (Cond.selects "ChainCover" ⟨"ChainCover", "longestUnder", "(II)I"⟩ ⟨"ChainCover", "longestUnder", "(II)I"⟩) ∈ lw_all := lw_g (lw_at lw_ms 13 rfl) rfl
theorem qs14 : (Cond.selects "ChainCoverModel" ⟨"ChainCoverModel", "isSet", "(I)Z"⟩ ⟨"ChainCoverModel", "isSet", "(I)Z"⟩) ∈ lw_all := lw_g (lw_at lw_ms 14 rfl) rfl
theorem qs15 : (Cond.selects "ChainCoverModel" ⟨"ChainCoverModel", "in", "(II)Z"⟩ ⟨"ChainCoverModel", "in", "(II)Z"⟩) ∈ lw_all := lw_g (lw_at lw_ms 15 rfl) rfl
theorem qs16 : (Cond.selects "ChainCoverModel" ⟨"ChainCoverModel", "largest", "(IZ)I"⟩ ⟨"ChainCoverModel", "largest", "(IZ)I"⟩) ∈ lw_all := lw_g (lw_at lw_ms 16 rfl) rfl
theorem qs17 : (Cond.selects "ChainCoverModel" ⟨"ChainCoverModel", "sizeOf", "(I)I"⟩ ⟨"ChainCoverModel", "sizeOf", "(I)I"⟩) ∈ lw_all := lw_g (lw_at lw_ms 17 rfl) rfl
theorem qs18 : (Cond.selects "ChainCoverModel" ⟨"ChainCoverModel", "uniform", "(IZ)Z"⟩ ⟨"ChainCoverModel", "uniform", "(IZ)Z"⟩) ∈ lw_all := lw_g (lw_at lw_ms 18 rfl) rfl
theorem qs19 : (Cond.selects "ChainCoverModel" ⟨"ChainCoverModel", "extreme", "(Z)I"⟩ ⟨"ChainCoverModel", "extreme", "(Z)I"⟩) ∈ lw_all := lw_g (lw_at lw_ms 19 rfl) rfl
theorem qs20 : (Cond.selects "ChainCoverModel" ⟨"ChainCoverModel", "findLargest", "()V"⟩ ⟨"ChainCoverModel", "findLargest", "()V"⟩) ∈ lw_all := lw_g (lw_at lw_ms 20 rfl) rfl
theorem qs21 : (Cond.selects "ChainCoverModel" ⟨"ChainCoverModel", "isExtreme", "(IZ)Z"⟩ ⟨"ChainCoverModel", "isExtreme", "(IZ)Z"⟩) ∈ lw_all := lw_g (lw_at lw_ms 21 rfl) rfl
theorem qs22 : (Cond.selects "ChainCoverModel" ⟨"ChainCoverModel", "allBelow", "(II)Z"⟩ ⟨"ChainCoverModel", "allBelow", "(II)Z"⟩) ∈ lw_all := lw_g (lw_at lw_ms 22 rfl) rfl
theorem qs23 : (Cond.selects "ChainCoverModel" ⟨"ChainCoverModel", "someAbove", "(II)Z"⟩ ⟨"ChainCoverModel", "someAbove", "(II)Z"⟩) ∈ lw_all := lw_g (lw_at lw_ms 23 rfl) rfl
theorem qs24 : (Cond.selects "ChainCoverModel" ⟨"ChainCoverModel", "allAbove", "(II)Z"⟩ ⟨"ChainCoverModel", "allAbove", "(II)Z"⟩) ∈ lw_all := lw_g (lw_at lw_ms 24 rfl) rfl
end
section
set_option maxRecDepth 100000
/-! ChainCover -/
def RX0 : String := "ChainCover"
def TX0 : u_T := fun k => match k with
  | 0 => ("ChainCover", "elementCount", "I", false)
  | 1 => ("ChainCover", "under", "[I", true)
  | 2 => ("ChainCover", "over", "[I", true)
  | 3 => ("ChainCover", "allMatched", "Z", false)
  | 4 => ("ChainCover", "keptUp", "[B", true)
  | 5 => ("ChainCover", "keptDown", "[B", true)
  | 6 => ("ChainCover", "up", "[B", true)
  | 7 => ("ChainCover", "down", "[B", true)
  | 8 => ("ChainCover", "queue", "[B", true)
  | 9 => ("ChainCover", "cameFrom", "[B", true)
  | _ => ("ChainCover", "chainLength", "[B", true)
def tyX0 : Nat → FieldType := fun k => match k with
  | 0 => .int
  | 1 => .array .int
  | 2 => .array .int
  | 3 => .boolean
  | 4 => .array .byte
  | 5 => .array .byte
  | 6 => .array .byte
  | 7 => .array .byte
  | 8 => .array .byte
  | 9 => .array .byte
  | _ => .array .byte
abbrev wsX00 : List Cond := u_ws RX0 TX0 11
theorem nmX0 : ∀ a, a < 11 → ∀ b, b < 11 → a ≠ b → (TX0 a).2.1 ≠ (TX0 b).2.1 := by decide +kernel
theorem tyX0_ok : ∀ k, k < 11 → parseFieldDescriptor (TX0 k).2.2.1 = some (tyX0 k) := by decide +kernel
abbrev cX0_init : ByteArray := prog_1_method_1_code
def yX0_init : MethodName := ⟨RX0, "<init>", "()V"⟩
theorem dX0_init_0 : decode cX0_init 0 = .ok (.aload_n 0, 1) := by decide +kernel
theorem dX0_init_1 : decode cX0_init 1 = .ok (.invokespecial 1, 3) := by decide +kernel
theorem dX0_init_4 : decode cX0_init 4 = .ok (.aload_n 0, 1) := by decide +kernel
theorem dX0_init_5 : decode cX0_init 5 = .ok (.bipush 10, 2) := by decide +kernel
theorem dX0_init_7 : decode cX0_init 7 = .ok (.newarray .int, 2) := by decide +kernel
theorem dX0_init_9 : decode cX0_init 9 = .ok (.putfield 7, 3) := by decide +kernel
theorem dX0_init_12 : decode cX0_init 12 = .ok (.aload_n 0, 1) := by decide +kernel
theorem dX0_init_13 : decode cX0_init 13 = .ok (.bipush 10, 2) := by decide +kernel
theorem dX0_init_15 : decode cX0_init 15 = .ok (.newarray .int, 2) := by decide +kernel
theorem dX0_init_17 : decode cX0_init 17 = .ok (.putfield 13, 3) := by decide +kernel
theorem dX0_init_20 : decode cX0_init 20 = .ok (.aload_n 0, 1) := by decide +kernel
theorem dX0_init_21 : decode cX0_init 21 = .ok (.bipush 10, 2) := by decide +kernel
theorem dX0_init_23 : decode cX0_init 23 = .ok (.newarray .byte, 2) := by decide +kernel
theorem dX0_init_25 : decode cX0_init 25 = .ok (.putfield 16, 3) := by decide +kernel
theorem dX0_init_28 : decode cX0_init 28 = .ok (.aload_n 0, 1) := by decide +kernel
theorem dX0_init_29 : decode cX0_init 29 = .ok (.bipush 10, 2) := by decide +kernel
theorem dX0_init_31 : decode cX0_init 31 = .ok (.newarray .byte, 2) := by decide +kernel
theorem dX0_init_33 : decode cX0_init 33 = .ok (.putfield 20, 3) := by decide +kernel
theorem dX0_init_36 : decode cX0_init 36 = .ok (.aload_n 0, 1) := by decide +kernel
theorem dX0_init_37 : decode cX0_init 37 = .ok (.bipush 10, 2) := by decide +kernel
theorem dX0_init_39 : decode cX0_init 39 = .ok (.newarray .byte, 2) := by decide +kernel
theorem dX0_init_41 : decode cX0_init 41 = .ok (.putfield 23, 3) := by decide +kernel
theorem dX0_init_44 : decode cX0_init 44 = .ok (.aload_n 0, 1) := by decide +kernel
theorem dX0_init_45 : decode cX0_init 45 = .ok (.bipush 10, 2) := by decide +kernel
theorem dX0_init_47 : decode cX0_init 47 = .ok (.newarray .byte, 2) := by decide +kernel
theorem dX0_init_49 : decode cX0_init 49 = .ok (.putfield 26, 3) := by decide +kernel
theorem dX0_init_52 : decode cX0_init 52 = .ok (.aload_n 0, 1) := by decide +kernel
theorem dX0_init_53 : decode cX0_init 53 = .ok (.bipush 10, 2) := by decide +kernel
theorem dX0_init_55 : decode cX0_init 55 = .ok (.newarray .byte, 2) := by decide +kernel
theorem dX0_init_57 : decode cX0_init 57 = .ok (.putfield 29, 3) := by decide +kernel
theorem dX0_init_60 : decode cX0_init 60 = .ok (.aload_n 0, 1) := by decide +kernel
theorem dX0_init_61 : decode cX0_init 61 = .ok (.bipush 10, 2) := by decide +kernel
theorem dX0_init_63 : decode cX0_init 63 = .ok (.newarray .byte, 2) := by decide +kernel
theorem dX0_init_65 : decode cX0_init 65 = .ok (.putfield 32, 3) := by decide +kernel
theorem dX0_init_68 : decode cX0_init 68 = .ok (.aload_n 0, 1) := by decide +kernel
theorem dX0_init_69 : decode cX0_init 69 = .ok (.bipush 10, 2) := by decide +kernel
theorem dX0_init_71 : decode cX0_init 71 = .ok (.newarray .byte, 2) := by decide +kernel
theorem dX0_init_73 : decode cX0_init 73 = .ok (.putfield 35, 3) := by decide +kernel
theorem dX0_init_76 : decode cX0_init 76 = .ok (.aload_n 0, 1) := by decide +kernel
theorem dX0_init_77 : decode cX0_init 77 = .ok (.iconst 1, 1) := by decide +kernel
theorem dX0_init_78 : decode cX0_init 78 = .ok (.putfield 38, 3) := by decide +kernel
theorem dX0_init_81 : decode cX0_init 81 = .ok (.return_, 1) := by decide +kernel
abbrev cX0_add : ByteArray := prog_1_method_2_code
def yX0_add : MethodName := ⟨RX0, "add", "(I)I"⟩
theorem dX0_add_0 : decode cX0_add 0 = .ok (.aload_n 0, 1) := by decide +kernel
theorem dX0_add_1 : decode cX0_add 1 = .ok (.getfield 42, 3) := by decide +kernel
theorem dX0_add_4 : decode cX0_add 4 = .ok (.bipush 10, 2) := by decide +kernel
theorem dX0_add_6 : decode cX0_add 6 = .ok (.if_icmp .lt 6, 3) := by decide +kernel
theorem dX0_add_9 : decode cX0_add 9 = .ok (.bipush (-2), 2) := by decide +kernel
theorem dX0_add_11 : decode cX0_add 11 = .ok (.ireturn, 1) := by decide +kernel
theorem dX0_add_12 : decode cX0_add 12 = .ok (.aload_n 0, 1) := by decide +kernel
theorem dX0_add_13 : decode cX0_add 13 = .ok (.iload_n 1, 1) := by decide +kernel
theorem dX0_add_14 : decode cX0_add 14 = .ok (.invokevirtual 46, 3) := by decide +kernel
theorem dX0_add_17 : decode cX0_add 17 = .ok (.ifCond .ne 5, 3) := by decide +kernel
theorem dX0_add_20 : decode cX0_add 20 = .ok (.iconst (-1), 1) := by decide +kernel
theorem dX0_add_21 : decode cX0_add 21 = .ok (.ireturn, 1) := by decide +kernel
theorem dX0_add_22 : decode cX0_add 22 = .ok (.aload_n 0, 1) := by decide +kernel
theorem dX0_add_23 : decode cX0_add 23 = .ok (.getfield 42, 3) := by decide +kernel
theorem dX0_add_26 : decode cX0_add 26 = .ok (.istore_n 2, 1) := by decide +kernel
theorem dX0_add_27 : decode cX0_add 27 = .ok (.iload_n 1, 1) := by decide +kernel
theorem dX0_add_28 : decode cX0_add 28 = .ok (.istore_n 3, 1) := by decide +kernel
theorem dX0_add_29 : decode cX0_add 29 = .ok (.iconst 0, 1) := by decide +kernel
theorem dX0_add_30 : decode cX0_add 30 = .ok (.istore 4, 2) := by decide +kernel
theorem dX0_add_32 : decode cX0_add 32 = .ok (.iload 4, 2) := by decide +kernel
theorem dX0_add_34 : decode cX0_add 34 = .ok (.iload_n 2, 1) := by decide +kernel
theorem dX0_add_35 : decode cX0_add 35 = .ok (.if_icmp .ge 28, 3) := by decide +kernel
theorem dX0_add_38 : decode cX0_add 38 = .ok (.iload_n 1, 1) := by decide +kernel
theorem dX0_add_39 : decode cX0_add 39 = .ok (.iload 4, 2) := by decide +kernel
theorem dX0_add_41 : decode cX0_add 41 = .ok (.ishr, 1) := by decide +kernel
theorem dX0_add_42 : decode cX0_add 42 = .ok (.iconst 1, 1) := by decide +kernel
theorem dX0_add_43 : decode cX0_add 43 = .ok (.iand, 1) := by decide +kernel
theorem dX0_add_44 : decode cX0_add 44 = .ok (.ifCond .eq 13, 3) := by decide +kernel
theorem dX0_add_47 : decode cX0_add 47 = .ok (.iload_n 3, 1) := by decide +kernel
theorem dX0_add_48 : decode cX0_add 48 = .ok (.aload_n 0, 1) := by decide +kernel
theorem dX0_add_49 : decode cX0_add 49 = .ok (.getfield 7, 3) := by decide +kernel
theorem dX0_add_52 : decode cX0_add 52 = .ok (.iload 4, 2) := by decide +kernel
theorem dX0_add_54 : decode cX0_add 54 = .ok (.iaload, 1) := by decide +kernel
theorem dX0_add_55 : decode cX0_add 55 = .ok (.ior, 1) := by decide +kernel
theorem dX0_add_56 : decode cX0_add 56 = .ok (.istore_n 3, 1) := by decide +kernel
theorem dX0_add_57 : decode cX0_add 57 = .ok (.iinc 4 1, 3) := by decide +kernel
theorem dX0_add_60 : decode cX0_add 60 = .ok (.goto (-28), 3) := by decide +kernel
theorem dX0_add_63 : decode cX0_add 63 = .ok (.aload_n 0, 1) := by decide +kernel
theorem dX0_add_64 : decode cX0_add 64 = .ok (.getfield 7, 3) := by decide +kernel
theorem dX0_add_67 : decode cX0_add 67 = .ok (.iload_n 2, 1) := by decide +kernel
theorem dX0_add_68 : decode cX0_add 68 = .ok (.iload_n 3, 1) := by decide +kernel
theorem dX0_add_69 : decode cX0_add 69 = .ok (.iastore, 1) := by decide +kernel
theorem dX0_add_70 : decode cX0_add 70 = .ok (.aload_n 0, 1) := by decide +kernel
theorem dX0_add_71 : decode cX0_add 71 = .ok (.getfield 13, 3) := by decide +kernel
theorem dX0_add_74 : decode cX0_add 74 = .ok (.iload_n 2, 1) := by decide +kernel
theorem dX0_add_75 : decode cX0_add 75 = .ok (.iconst 0, 1) := by decide +kernel
theorem dX0_add_76 : decode cX0_add 76 = .ok (.iastore, 1) := by decide +kernel
theorem dX0_add_77 : decode cX0_add 77 = .ok (.iconst 0, 1) := by decide +kernel
theorem dX0_add_78 : decode cX0_add 78 = .ok (.istore 4, 2) := by decide +kernel
theorem dX0_add_80 : decode cX0_add 80 = .ok (.iload 4, 2) := by decide +kernel
theorem dX0_add_82 : decode cX0_add 82 = .ok (.iload_n 2, 1) := by decide +kernel
theorem dX0_add_83 : decode cX0_add 83 = .ok (.if_icmp .ge 31, 3) := by decide +kernel
theorem dX0_add_86 : decode cX0_add 86 = .ok (.iload_n 3, 1) := by decide +kernel
theorem dX0_add_87 : decode cX0_add 87 = .ok (.iload 4, 2) := by decide +kernel
theorem dX0_add_89 : decode cX0_add 89 = .ok (.ishr, 1) := by decide +kernel
theorem dX0_add_90 : decode cX0_add 90 = .ok (.iconst 1, 1) := by decide +kernel
theorem dX0_add_91 : decode cX0_add 91 = .ok (.iand, 1) := by decide +kernel
theorem dX0_add_92 : decode cX0_add 92 = .ok (.ifCond .eq 16, 3) := by decide +kernel
theorem dX0_add_95 : decode cX0_add 95 = .ok (.aload_n 0, 1) := by decide +kernel
theorem dX0_add_96 : decode cX0_add 96 = .ok (.getfield 13, 3) := by decide +kernel
theorem dX0_add_99 : decode cX0_add 99 = .ok (.iload 4, 2) := by decide +kernel
theorem dX0_add_101 : decode cX0_add 101 = .ok (.dup2, 1) := by decide +kernel
theorem dX0_add_102 : decode cX0_add 102 = .ok (.iaload, 1) := by decide +kernel
theorem dX0_add_103 : decode cX0_add 103 = .ok (.iconst 1, 1) := by decide +kernel
theorem dX0_add_104 : decode cX0_add 104 = .ok (.iload_n 2, 1) := by decide +kernel
theorem dX0_add_105 : decode cX0_add 105 = .ok (.ishl, 1) := by decide +kernel
theorem dX0_add_106 : decode cX0_add 106 = .ok (.ior, 1) := by decide +kernel
theorem dX0_add_107 : decode cX0_add 107 = .ok (.iastore, 1) := by decide +kernel
theorem dX0_add_108 : decode cX0_add 108 = .ok (.iinc 4 1, 3) := by decide +kernel
theorem dX0_add_111 : decode cX0_add 111 = .ok (.goto (-31), 3) := by decide +kernel
theorem dX0_add_114 : decode cX0_add 114 = .ok (.aload_n 0, 1) := by decide +kernel
theorem dX0_add_115 : decode cX0_add 115 = .ok (.getfield 16, 3) := by decide +kernel
theorem dX0_add_118 : decode cX0_add 118 = .ok (.iload_n 2, 1) := by decide +kernel
theorem dX0_add_119 : decode cX0_add 119 = .ok (.iconst (-1), 1) := by decide +kernel
theorem dX0_add_120 : decode cX0_add 120 = .ok (.bastore, 1) := by decide +kernel
theorem dX0_add_121 : decode cX0_add 121 = .ok (.aload_n 0, 1) := by decide +kernel
theorem dX0_add_122 : decode cX0_add 122 = .ok (.getfield 20, 3) := by decide +kernel
theorem dX0_add_125 : decode cX0_add 125 = .ok (.iload_n 2, 1) := by decide +kernel
theorem dX0_add_126 : decode cX0_add 126 = .ok (.iconst (-1), 1) := by decide +kernel
theorem dX0_add_127 : decode cX0_add 127 = .ok (.bastore, 1) := by decide +kernel
theorem dX0_add_128 : decode cX0_add 128 = .ok (.aload_n 0, 1) := by decide +kernel
theorem dX0_add_129 : decode cX0_add 129 = .ok (.dup, 1) := by decide +kernel
theorem dX0_add_130 : decode cX0_add 130 = .ok (.getfield 42, 3) := by decide +kernel
theorem dX0_add_133 : decode cX0_add 133 = .ok (.iconst 1, 1) := by decide +kernel
theorem dX0_add_134 : decode cX0_add 134 = .ok (.iadd, 1) := by decide +kernel
theorem dX0_add_135 : decode cX0_add 135 = .ok (.putfield 42, 3) := by decide +kernel
theorem dX0_add_138 : decode cX0_add 138 = .ok (.aload_n 0, 1) := by decide +kernel
theorem dX0_add_139 : decode cX0_add 139 = .ok (.getfield 38, 3) := by decide +kernel
theorem dX0_add_142 : decode cX0_add 142 = .ok (.ifCond .eq 7, 3) := by decide +kernel
theorem dX0_add_145 : decode cX0_add 145 = .ok (.aload_n 0, 1) := by decide +kernel
theorem dX0_add_146 : decode cX0_add 146 = .ok (.invokevirtual 50, 3) := by decide +kernel
theorem dX0_add_149 : decode cX0_add 149 = .ok (.aload_n 0, 1) := by decide +kernel
theorem dX0_add_150 : decode cX0_add 150 = .ok (.getfield 42, 3) := by decide +kernel
theorem dX0_add_153 : decode cX0_add 153 = .ok (.ireturn, 1) := by decide +kernel
abbrev cX0_isSet : ByteArray := prog_1_method_19_code
def yX0_isSet : MethodName := ⟨RX0, "isSet", "(I)Z"⟩
theorem dX0_isSet_0 : decode cX0_isSet 0 = .ok (.iload_n 1, 1) := by decide +kernel
theorem dX0_isSet_1 : decode cX0_isSet 1 = .ok (.ifCond .lt 17, 3) := by decide +kernel
theorem dX0_isSet_4 : decode cX0_isSet 4 = .ok (.iload_n 1, 1) := by decide +kernel
theorem dX0_isSet_5 : decode cX0_isSet 5 = .ok (.iconst 1, 1) := by decide +kernel
theorem dX0_isSet_6 : decode cX0_isSet 6 = .ok (.aload_n 0, 1) := by decide +kernel
theorem dX0_isSet_7 : decode cX0_isSet 7 = .ok (.getfield 42, 3) := by decide +kernel
theorem dX0_isSet_10 : decode cX0_isSet 10 = .ok (.ishl, 1) := by decide +kernel
theorem dX0_isSet_11 : decode cX0_isSet 11 = .ok (.if_icmp .ge 7, 3) := by decide +kernel
theorem dX0_isSet_14 : decode cX0_isSet 14 = .ok (.iconst 1, 1) := by decide +kernel
theorem dX0_isSet_15 : decode cX0_isSet 15 = .ok (.goto 4, 3) := by decide +kernel
theorem dX0_isSet_18 : decode cX0_isSet 18 = .ok (.iconst 0, 1) := by decide +kernel
theorem dX0_isSet_19 : decode cX0_isSet 19 = .ok (.ireturn, 1) := by decide +kernel
abbrev cX0_matchOneMore : ByteArray := prog_1_method_3_code
def yX0_matchOneMore : MethodName := ⟨RX0, "matchOneMore", "()V"⟩
theorem dX0_matchOneMore_0 : decode cX0_matchOneMore 0 = .ok (.aload_n 0, 1) := by decide +kernel
theorem dX0_matchOneMore_1 : decode cX0_matchOneMore 1 = .ok (.invokevirtual 53, 3) := by decide +kernel
theorem dX0_matchOneMore_4 : decode cX0_matchOneMore 4 = .ok (.iconst 1, 1) := by decide +kernel
theorem dX0_matchOneMore_5 : decode cX0_matchOneMore 5 = .ok (.aload_n 0, 1) := by decide +kernel
theorem dX0_matchOneMore_6 : decode cX0_matchOneMore 6 = .ok (.getfield 42, 3) := by decide +kernel
theorem dX0_matchOneMore_9 : decode cX0_matchOneMore 9 = .ok (.ishl, 1) := by decide +kernel
theorem dX0_matchOneMore_10 : decode cX0_matchOneMore 10 = .ok (.iconst 1, 1) := by decide +kernel
theorem dX0_matchOneMore_11 : decode cX0_matchOneMore 11 = .ok (.isub, 1) := by decide +kernel
theorem dX0_matchOneMore_12 : decode cX0_matchOneMore 12 = .ok (.istore_n 1, 1) := by decide +kernel
theorem dX0_matchOneMore_13 : decode cX0_matchOneMore 13 = .ok (.iconst 0, 1) := by decide +kernel
theorem dX0_matchOneMore_14 : decode cX0_matchOneMore 14 = .ok (.istore_n 2, 1) := by decide +kernel
theorem dX0_matchOneMore_15 : decode cX0_matchOneMore 15 = .ok (.iconst 0, 1) := by decide +kernel
theorem dX0_matchOneMore_16 : decode cX0_matchOneMore 16 = .ok (.istore_n 3, 1) := by decide +kernel
theorem dX0_matchOneMore_17 : decode cX0_matchOneMore 17 = .ok (.iload_n 3, 1) := by decide +kernel
theorem dX0_matchOneMore_18 : decode cX0_matchOneMore 18 = .ok (.aload_n 0, 1) := by decide +kernel
theorem dX0_matchOneMore_19 : decode cX0_matchOneMore 19 = .ok (.getfield 42, 3) := by decide +kernel
theorem dX0_matchOneMore_22 : decode cX0_matchOneMore 22 = .ok (.if_icmp .ge 29, 3) := by decide +kernel
theorem dX0_matchOneMore_25 : decode cX0_matchOneMore 25 = .ok (.iload_n 2, 1) := by decide +kernel
theorem dX0_matchOneMore_26 : decode cX0_matchOneMore 26 = .ok (.ifCond .ne 25, 3) := by decide +kernel
theorem dX0_matchOneMore_29 : decode cX0_matchOneMore 29 = .ok (.aload_n 0, 1) := by decide +kernel
theorem dX0_matchOneMore_30 : decode cX0_matchOneMore 30 = .ok (.getfield 23, 3) := by decide +kernel
theorem dX0_matchOneMore_33 : decode cX0_matchOneMore 33 = .ok (.iload_n 3, 1) := by decide +kernel
theorem dX0_matchOneMore_34 : decode cX0_matchOneMore 34 = .ok (.baload, 1) := by decide +kernel
theorem dX0_matchOneMore_35 : decode cX0_matchOneMore 35 = .ok (.ifCond .ge 10, 3) := by decide +kernel
theorem dX0_matchOneMore_38 : decode cX0_matchOneMore 38 = .ok (.aload_n 0, 1) := by decide +kernel
theorem dX0_matchOneMore_39 : decode cX0_matchOneMore 39 = .ok (.iload_n 3, 1) := by decide +kernel
theorem dX0_matchOneMore_40 : decode cX0_matchOneMore 40 = .ok (.iload_n 1, 1) := by decide +kernel
theorem dX0_matchOneMore_41 : decode cX0_matchOneMore 41 = .ok (.invokevirtual 56, 3) := by decide +kernel
theorem dX0_matchOneMore_44 : decode cX0_matchOneMore 44 = .ok (.istore_n 2, 1) := by decide +kernel
theorem dX0_matchOneMore_45 : decode cX0_matchOneMore 45 = .ok (.iinc 3 1, 3) := by decide +kernel
theorem dX0_matchOneMore_48 : decode cX0_matchOneMore 48 = .ok (.goto (-31), 3) := by decide +kernel
theorem dX0_matchOneMore_51 : decode cX0_matchOneMore 51 = .ok (.aload_n 0, 1) := by decide +kernel
theorem dX0_matchOneMore_52 : decode cX0_matchOneMore 52 = .ok (.invokevirtual 60, 3) := by decide +kernel
theorem dX0_matchOneMore_55 : decode cX0_matchOneMore 55 = .ok (.return_, 1) := by decide +kernel
abbrev cX0_loadKept : ByteArray := prog_1_method_21_code
def yX0_loadKept : MethodName := ⟨RX0, "loadKept", "()V"⟩
theorem dX0_loadKept_0 : decode cX0_loadKept 0 = .ok (.iconst 0, 1) := by decide +kernel
theorem dX0_loadKept_1 : decode cX0_loadKept 1 = .ok (.istore_n 1, 1) := by decide +kernel
theorem dX0_loadKept_2 : decode cX0_loadKept 2 = .ok (.iload_n 1, 1) := by decide +kernel
theorem dX0_loadKept_3 : decode cX0_loadKept 3 = .ok (.aload_n 0, 1) := by decide +kernel
theorem dX0_loadKept_4 : decode cX0_loadKept 4 = .ok (.getfield 42, 3) := by decide +kernel
theorem dX0_loadKept_7 : decode cX0_loadKept 7 = .ok (.if_icmp .ge 33, 3) := by decide +kernel
theorem dX0_loadKept_10 : decode cX0_loadKept 10 = .ok (.aload_n 0, 1) := by decide +kernel
theorem dX0_loadKept_11 : decode cX0_loadKept 11 = .ok (.getfield 23, 3) := by decide +kernel
theorem dX0_loadKept_14 : decode cX0_loadKept 14 = .ok (.iload_n 1, 1) := by decide +kernel
theorem dX0_loadKept_15 : decode cX0_loadKept 15 = .ok (.aload_n 0, 1) := by decide +kernel
theorem dX0_loadKept_16 : decode cX0_loadKept 16 = .ok (.getfield 16, 3) := by decide +kernel
theorem dX0_loadKept_19 : decode cX0_loadKept 19 = .ok (.iload_n 1, 1) := by decide +kernel
theorem dX0_loadKept_20 : decode cX0_loadKept 20 = .ok (.baload, 1) := by decide +kernel
theorem dX0_loadKept_21 : decode cX0_loadKept 21 = .ok (.bastore, 1) := by decide +kernel
theorem dX0_loadKept_22 : decode cX0_loadKept 22 = .ok (.aload_n 0, 1) := by decide +kernel
theorem dX0_loadKept_23 : decode cX0_loadKept 23 = .ok (.getfield 26, 3) := by decide +kernel
theorem dX0_loadKept_26 : decode cX0_loadKept 26 = .ok (.iload_n 1, 1) := by decide +kernel
theorem dX0_loadKept_27 : decode cX0_loadKept 27 = .ok (.aload_n 0, 1) := by decide +kernel
theorem dX0_loadKept_28 : decode cX0_loadKept 28 = .ok (.getfield 20, 3) := by decide +kernel
theorem dX0_loadKept_31 : decode cX0_loadKept 31 = .ok (.iload_n 1, 1) := by decide +kernel
theorem dX0_loadKept_32 : decode cX0_loadKept 32 = .ok (.baload, 1) := by decide +kernel
theorem dX0_loadKept_33 : decode cX0_loadKept 33 = .ok (.bastore, 1) := by decide +kernel
theorem dX0_loadKept_34 : decode cX0_loadKept 34 = .ok (.iinc 1 1, 3) := by decide +kernel
theorem dX0_loadKept_37 : decode cX0_loadKept 37 = .ok (.goto (-35), 3) := by decide +kernel
theorem dX0_loadKept_40 : decode cX0_loadKept 40 = .ok (.return_, 1) := by decide +kernel
abbrev cX0_augment : ByteArray := prog_1_method_26_code
def yX0_augment : MethodName := ⟨RX0, "augment", "(II)Z"⟩
theorem dX0_augment_0 : decode cX0_augment 0 = .ok (.iconst 1, 1) := by decide +kernel
theorem dX0_augment_1 : decode cX0_augment 1 = .ok (.istore_n 3, 1) := by decide +kernel
theorem dX0_augment_2 : decode cX0_augment 2 = .ok (.iconst 0, 1) := by decide +kernel
theorem dX0_augment_3 : decode cX0_augment 3 = .ok (.istore 4, 2) := by decide +kernel
theorem dX0_augment_5 : decode cX0_augment 5 = .ok (.aload_n 0, 1) := by decide +kernel
theorem dX0_augment_6 : decode cX0_augment 6 = .ok (.getfield 29, 3) := by decide +kernel
theorem dX0_augment_9 : decode cX0_augment 9 = .ok (.iconst 0, 1) := by decide +kernel
theorem dX0_augment_10 : decode cX0_augment 10 = .ok (.iload_n 1, 1) := by decide +kernel
theorem dX0_augment_11 : decode cX0_augment 11 = .ok (.i2b, 1) := by decide +kernel
theorem dX0_augment_12 : decode cX0_augment 12 = .ok (.bastore, 1) := by decide +kernel
theorem dX0_augment_13 : decode cX0_augment 13 = .ok (.iconst 0, 1) := by decide +kernel
theorem dX0_augment_14 : decode cX0_augment 14 = .ok (.istore 5, 2) := by decide +kernel
theorem dX0_augment_16 : decode cX0_augment 16 = .ok (.iload 5, 2) := by decide +kernel
theorem dX0_augment_18 : decode cX0_augment 18 = .ok (.iload_n 3, 1) := by decide +kernel
theorem dX0_augment_19 : decode cX0_augment 19 = .ok (.if_icmp .ge 141, 3) := by decide +kernel
theorem dX0_augment_22 : decode cX0_augment 22 = .ok (.aload_n 0, 1) := by decide +kernel
theorem dX0_augment_23 : decode cX0_augment 23 = .ok (.getfield 29, 3) := by decide +kernel
theorem dX0_augment_26 : decode cX0_augment 26 = .ok (.iload 5, 2) := by decide +kernel
theorem dX0_augment_28 : decode cX0_augment 28 = .ok (.baload, 1) := by decide +kernel
theorem dX0_augment_29 : decode cX0_augment 29 = .ok (.istore 6, 2) := by decide +kernel
theorem dX0_augment_31 : decode cX0_augment 31 = .ok (.iload 6, 2) := by decide +kernel
theorem dX0_augment_33 : decode cX0_augment 33 = .ok (.iconst 1, 1) := by decide +kernel
theorem dX0_augment_34 : decode cX0_augment 34 = .ok (.iadd, 1) := by decide +kernel
theorem dX0_augment_35 : decode cX0_augment 35 = .ok (.istore 7, 2) := by decide +kernel
theorem dX0_augment_37 : decode cX0_augment 37 = .ok (.iload 7, 2) := by decide +kernel
theorem dX0_augment_39 : decode cX0_augment 39 = .ok (.aload_n 0, 1) := by decide +kernel
theorem dX0_augment_40 : decode cX0_augment 40 = .ok (.getfield 42, 3) := by decide +kernel
theorem dX0_augment_43 : decode cX0_augment 43 = .ok (.if_icmp .ge 111, 3) := by decide +kernel
theorem dX0_augment_46 : decode cX0_augment 46 = .ok (.aload_n 0, 1) := by decide +kernel
theorem dX0_augment_47 : decode cX0_augment 47 = .ok (.getfield 13, 3) := by decide +kernel
theorem dX0_augment_50 : decode cX0_augment 50 = .ok (.iload 6, 2) := by decide +kernel
theorem dX0_augment_52 : decode cX0_augment 52 = .ok (.iaload, 1) := by decide +kernel
theorem dX0_augment_53 : decode cX0_augment 53 = .ok (.iload_n 2, 1) := by decide +kernel
theorem dX0_augment_54 : decode cX0_augment 54 = .ok (.iand, 1) := by decide +kernel
theorem dX0_augment_55 : decode cX0_augment 55 = .ok (.iload 4, 2) := by decide +kernel
theorem dX0_augment_57 : decode cX0_augment 57 = .ok (.iconst (-1), 1) := by decide +kernel
theorem dX0_augment_58 : decode cX0_augment 58 = .ok (.ixor, 1) := by decide +kernel
theorem dX0_augment_59 : decode cX0_augment 59 = .ok (.iand, 1) := by decide +kernel
theorem dX0_augment_60 : decode cX0_augment 60 = .ok (.iload 7, 2) := by decide +kernel
theorem dX0_augment_62 : decode cX0_augment 62 = .ok (.ishr, 1) := by decide +kernel
theorem dX0_augment_63 : decode cX0_augment 63 = .ok (.ifCond .ne 6, 3) := by decide +kernel
theorem dX0_augment_66 : decode cX0_augment 66 = .ok (.goto 88, 3) := by decide +kernel
theorem dX0_augment_69 : decode cX0_augment 69 = .ok (.aload_n 0, 1) := by decide +kernel
theorem dX0_augment_70 : decode cX0_augment 70 = .ok (.getfield 13, 3) := by decide +kernel
theorem dX0_augment_73 : decode cX0_augment 73 = .ok (.iload 6, 2) := by decide +kernel
theorem dX0_augment_75 : decode cX0_augment 75 = .ok (.iaload, 1) := by decide +kernel
theorem dX0_augment_76 : decode cX0_augment 76 = .ok (.iload_n 2, 1) := by decide +kernel
theorem dX0_augment_77 : decode cX0_augment 77 = .ok (.iand, 1) := by decide +kernel
theorem dX0_augment_78 : decode cX0_augment 78 = .ok (.iload 4, 2) := by decide +kernel
theorem dX0_augment_80 : decode cX0_augment 80 = .ok (.iconst (-1), 1) := by decide +kernel
theorem dX0_augment_81 : decode cX0_augment 81 = .ok (.ixor, 1) := by decide +kernel
theorem dX0_augment_82 : decode cX0_augment 82 = .ok (.iand, 1) := by decide +kernel
theorem dX0_augment_83 : decode cX0_augment 83 = .ok (.iconst 1, 1) := by decide +kernel
theorem dX0_augment_84 : decode cX0_augment 84 = .ok (.iload 7, 2) := by decide +kernel
theorem dX0_augment_86 : decode cX0_augment 86 = .ok (.ishl, 1) := by decide +kernel
theorem dX0_augment_87 : decode cX0_augment 87 = .ok (.iand, 1) := by decide +kernel
theorem dX0_augment_88 : decode cX0_augment 88 = .ok (.ifCond .ne 6, 3) := by decide +kernel
theorem dX0_augment_91 : decode cX0_augment 91 = .ok (.goto 57, 3) := by decide +kernel
theorem dX0_augment_94 : decode cX0_augment 94 = .ok (.iload 4, 2) := by decide +kernel
theorem dX0_augment_96 : decode cX0_augment 96 = .ok (.iconst 1, 1) := by decide +kernel
theorem dX0_augment_97 : decode cX0_augment 97 = .ok (.iload 7, 2) := by decide +kernel
theorem dX0_augment_99 : decode cX0_augment 99 = .ok (.ishl, 1) := by decide +kernel
theorem dX0_augment_100 : decode cX0_augment 100 = .ok (.ior, 1) := by decide +kernel
theorem dX0_augment_101 : decode cX0_augment 101 = .ok (.istore 4, 2) := by decide +kernel
theorem dX0_augment_103 : decode cX0_augment 103 = .ok (.aload_n 0, 1) := by decide +kernel
theorem dX0_augment_104 : decode cX0_augment 104 = .ok (.getfield 32, 3) := by decide +kernel
theorem dX0_augment_107 : decode cX0_augment 107 = .ok (.iload 7, 2) := by decide +kernel
theorem dX0_augment_109 : decode cX0_augment 109 = .ok (.iload 6, 2) := by decide +kernel
theorem dX0_augment_111 : decode cX0_augment 111 = .ok (.i2b, 1) := by decide +kernel
theorem dX0_augment_112 : decode cX0_augment 112 = .ok (.bastore, 1) := by decide +kernel
theorem dX0_augment_113 : decode cX0_augment 113 = .ok (.aload_n 0, 1) := by decide +kernel
theorem dX0_augment_114 : decode cX0_augment 114 = .ok (.getfield 26, 3) := by decide +kernel
theorem dX0_augment_117 : decode cX0_augment 117 = .ok (.iload 7, 2) := by decide +kernel
theorem dX0_augment_119 : decode cX0_augment 119 = .ok (.baload, 1) := by decide +kernel
theorem dX0_augment_120 : decode cX0_augment 120 = .ok (.ifCond .ge 12, 3) := by decide +kernel
theorem dX0_augment_123 : decode cX0_augment 123 = .ok (.aload_n 0, 1) := by decide +kernel
theorem dX0_augment_124 : decode cX0_augment 124 = .ok (.iload 7, 2) := by decide +kernel
theorem dX0_augment_126 : decode cX0_augment 126 = .ok (.iload_n 1, 1) := by decide +kernel
theorem dX0_augment_127 : decode cX0_augment 127 = .ok (.invokevirtual 94, 3) := by decide +kernel
theorem dX0_augment_130 : decode cX0_augment 130 = .ok (.iconst 1, 1) := by decide +kernel
theorem dX0_augment_131 : decode cX0_augment 131 = .ok (.ireturn, 1) := by decide +kernel
theorem dX0_augment_132 : decode cX0_augment 132 = .ok (.aload_n 0, 1) := by decide +kernel
theorem dX0_augment_133 : decode cX0_augment 133 = .ok (.getfield 29, 3) := by decide +kernel
theorem dX0_augment_136 : decode cX0_augment 136 = .ok (.iload_n 3, 1) := by decide +kernel
theorem dX0_augment_137 : decode cX0_augment 137 = .ok (.aload_n 0, 1) := by decide +kernel
theorem dX0_augment_138 : decode cX0_augment 138 = .ok (.getfield 26, 3) := by decide +kernel
theorem dX0_augment_141 : decode cX0_augment 141 = .ok (.iload 7, 2) := by decide +kernel
theorem dX0_augment_143 : decode cX0_augment 143 = .ok (.baload, 1) := by decide +kernel
theorem dX0_augment_144 : decode cX0_augment 144 = .ok (.bastore, 1) := by decide +kernel
theorem dX0_augment_145 : decode cX0_augment 145 = .ok (.iinc 3 1, 3) := by decide +kernel
theorem dX0_augment_148 : decode cX0_augment 148 = .ok (.iinc 7 1, 3) := by decide +kernel
theorem dX0_augment_151 : decode cX0_augment 151 = .ok (.goto (-114), 3) := by decide +kernel
theorem dX0_augment_154 : decode cX0_augment 154 = .ok (.iinc 5 1, 3) := by decide +kernel
theorem dX0_augment_157 : decode cX0_augment 157 = .ok (.goto (-141), 3) := by decide +kernel
theorem dX0_augment_160 : decode cX0_augment 160 = .ok (.iconst 0, 1) := by decide +kernel
theorem dX0_augment_161 : decode cX0_augment 161 = .ok (.ireturn, 1) := by decide +kernel
abbrev cX0_turnPath : ByteArray := prog_1_method_27_code
def yX0_turnPath : MethodName := ⟨RX0, "turnPath", "(II)V"⟩
theorem dX0_turnPath_0 : decode cX0_turnPath 0 = .ok (.iload_n 1, 1) := by decide +kernel
theorem dX0_turnPath_1 : decode cX0_turnPath 1 = .ok (.istore_n 3, 1) := by decide +kernel
theorem dX0_turnPath_2 : decode cX0_turnPath 2 = .ok (.iconst 0, 1) := by decide +kernel
theorem dX0_turnPath_3 : decode cX0_turnPath 3 = .ok (.istore 4, 2) := by decide +kernel
theorem dX0_turnPath_5 : decode cX0_turnPath 5 = .ok (.iload 4, 2) := by decide +kernel
theorem dX0_turnPath_7 : decode cX0_turnPath 7 = .ok (.bipush 10, 2) := by decide +kernel
theorem dX0_turnPath_9 : decode cX0_turnPath 9 = .ok (.if_icmp .ge 54, 3) := by decide +kernel
theorem dX0_turnPath_12 : decode cX0_turnPath 12 = .ok (.aload_n 0, 1) := by decide +kernel
theorem dX0_turnPath_13 : decode cX0_turnPath 13 = .ok (.getfield 32, 3) := by decide +kernel
theorem dX0_turnPath_16 : decode cX0_turnPath 16 = .ok (.iload_n 3, 1) := by decide +kernel
theorem dX0_turnPath_17 : decode cX0_turnPath 17 = .ok (.baload, 1) := by decide +kernel
theorem dX0_turnPath_18 : decode cX0_turnPath 18 = .ok (.istore 5, 2) := by decide +kernel
theorem dX0_turnPath_20 : decode cX0_turnPath 20 = .ok (.aload_n 0, 1) := by decide +kernel
theorem dX0_turnPath_21 : decode cX0_turnPath 21 = .ok (.getfield 23, 3) := by decide +kernel
theorem dX0_turnPath_24 : decode cX0_turnPath 24 = .ok (.iload 5, 2) := by decide +kernel
theorem dX0_turnPath_26 : decode cX0_turnPath 26 = .ok (.baload, 1) := by decide +kernel
theorem dX0_turnPath_27 : decode cX0_turnPath 27 = .ok (.istore 6, 2) := by decide +kernel
theorem dX0_turnPath_29 : decode cX0_turnPath 29 = .ok (.aload_n 0, 1) := by decide +kernel
theorem dX0_turnPath_30 : decode cX0_turnPath 30 = .ok (.getfield 23, 3) := by decide +kernel
theorem dX0_turnPath_33 : decode cX0_turnPath 33 = .ok (.iload 5, 2) := by decide +kernel
theorem dX0_turnPath_35 : decode cX0_turnPath 35 = .ok (.iload_n 3, 1) := by decide +kernel
theorem dX0_turnPath_36 : decode cX0_turnPath 36 = .ok (.i2b, 1) := by decide +kernel
theorem dX0_turnPath_37 : decode cX0_turnPath 37 = .ok (.bastore, 1) := by decide +kernel
theorem dX0_turnPath_38 : decode cX0_turnPath 38 = .ok (.aload_n 0, 1) := by decide +kernel
theorem dX0_turnPath_39 : decode cX0_turnPath 39 = .ok (.getfield 26, 3) := by decide +kernel
theorem dX0_turnPath_42 : decode cX0_turnPath 42 = .ok (.iload_n 3, 1) := by decide +kernel
theorem dX0_turnPath_43 : decode cX0_turnPath 43 = .ok (.iload 5, 2) := by decide +kernel
theorem dX0_turnPath_45 : decode cX0_turnPath 45 = .ok (.i2b, 1) := by decide +kernel
theorem dX0_turnPath_46 : decode cX0_turnPath 46 = .ok (.bastore, 1) := by decide +kernel
theorem dX0_turnPath_47 : decode cX0_turnPath 47 = .ok (.iload 5, 2) := by decide +kernel
theorem dX0_turnPath_49 : decode cX0_turnPath 49 = .ok (.iload_n 2, 1) := by decide +kernel
theorem dX0_turnPath_50 : decode cX0_turnPath 50 = .ok (.if_icmp .ne 4, 3) := by decide +kernel
theorem dX0_turnPath_53 : decode cX0_turnPath 53 = .ok (.return_, 1) := by decide +kernel
theorem dX0_turnPath_54 : decode cX0_turnPath 54 = .ok (.iload 6, 2) := by decide +kernel
theorem dX0_turnPath_56 : decode cX0_turnPath 56 = .ok (.istore_n 3, 1) := by decide +kernel
theorem dX0_turnPath_57 : decode cX0_turnPath 57 = .ok (.iinc 4 1, 3) := by decide +kernel
theorem dX0_turnPath_60 : decode cX0_turnPath 60 = .ok (.goto (-55), 3) := by decide +kernel
theorem dX0_turnPath_63 : decode cX0_turnPath 63 = .ok (.return_, 1) := by decide +kernel
abbrev cX0_storeKept : ByteArray := prog_1_method_22_code
def yX0_storeKept : MethodName := ⟨RX0, "storeKept", "()V"⟩
theorem dX0_storeKept_0 : decode cX0_storeKept 0 = .ok (.iconst 0, 1) := by decide +kernel
theorem dX0_storeKept_1 : decode cX0_storeKept 1 = .ok (.istore_n 1, 1) := by decide +kernel
theorem dX0_storeKept_2 : decode cX0_storeKept 2 = .ok (.iload_n 1, 1) := by decide +kernel
theorem dX0_storeKept_3 : decode cX0_storeKept 3 = .ok (.aload_n 0, 1) := by decide +kernel
theorem dX0_storeKept_4 : decode cX0_storeKept 4 = .ok (.getfield 42, 3) := by decide +kernel
theorem dX0_storeKept_7 : decode cX0_storeKept 7 = .ok (.if_icmp .ge 33, 3) := by decide +kernel
theorem dX0_storeKept_10 : decode cX0_storeKept 10 = .ok (.aload_n 0, 1) := by decide +kernel
theorem dX0_storeKept_11 : decode cX0_storeKept 11 = .ok (.getfield 16, 3) := by decide +kernel
theorem dX0_storeKept_14 : decode cX0_storeKept 14 = .ok (.iload_n 1, 1) := by decide +kernel
theorem dX0_storeKept_15 : decode cX0_storeKept 15 = .ok (.aload_n 0, 1) := by decide +kernel
theorem dX0_storeKept_16 : decode cX0_storeKept 16 = .ok (.getfield 23, 3) := by decide +kernel
theorem dX0_storeKept_19 : decode cX0_storeKept 19 = .ok (.iload_n 1, 1) := by decide +kernel
theorem dX0_storeKept_20 : decode cX0_storeKept 20 = .ok (.baload, 1) := by decide +kernel
theorem dX0_storeKept_21 : decode cX0_storeKept 21 = .ok (.bastore, 1) := by decide +kernel
theorem dX0_storeKept_22 : decode cX0_storeKept 22 = .ok (.aload_n 0, 1) := by decide +kernel
theorem dX0_storeKept_23 : decode cX0_storeKept 23 = .ok (.getfield 20, 3) := by decide +kernel
theorem dX0_storeKept_26 : decode cX0_storeKept 26 = .ok (.iload_n 1, 1) := by decide +kernel
theorem dX0_storeKept_27 : decode cX0_storeKept 27 = .ok (.aload_n 0, 1) := by decide +kernel
theorem dX0_storeKept_28 : decode cX0_storeKept 28 = .ok (.getfield 26, 3) := by decide +kernel
theorem dX0_storeKept_31 : decode cX0_storeKept 31 = .ok (.iload_n 1, 1) := by decide +kernel
theorem dX0_storeKept_32 : decode cX0_storeKept 32 = .ok (.baload, 1) := by decide +kernel
theorem dX0_storeKept_33 : decode cX0_storeKept 33 = .ok (.bastore, 1) := by decide +kernel
theorem dX0_storeKept_34 : decode cX0_storeKept 34 = .ok (.iinc 1 1, 3) := by decide +kernel
theorem dX0_storeKept_37 : decode cX0_storeKept 37 = .ok (.goto (-35), 3) := by decide +kernel
theorem dX0_storeKept_40 : decode cX0_storeKept 40 = .ok (.return_, 1) := by decide +kernel
abbrev cX0_removeLast : ByteArray := prog_1_method_4_code
def yX0_removeLast : MethodName := ⟨RX0, "removeLast", "()I"⟩
theorem dX0_removeLast_0 : decode cX0_removeLast 0 = .ok (.aload_n 0, 1) := by decide +kernel
theorem dX0_removeLast_1 : decode cX0_removeLast 1 = .ok (.getfield 42, 3) := by decide +kernel
theorem dX0_removeLast_4 : decode cX0_removeLast 4 = .ok (.ifCond .ne 5, 3) := by decide +kernel
theorem dX0_removeLast_7 : decode cX0_removeLast 7 = .ok (.iconst (-1), 1) := by decide +kernel
theorem dX0_removeLast_8 : decode cX0_removeLast 8 = .ok (.ireturn, 1) := by decide +kernel
theorem dX0_removeLast_9 : decode cX0_removeLast 9 = .ok (.aload_n 0, 1) := by decide +kernel
theorem dX0_removeLast_10 : decode cX0_removeLast 10 = .ok (.dup, 1) := by decide +kernel
theorem dX0_removeLast_11 : decode cX0_removeLast 11 = .ok (.getfield 42, 3) := by decide +kernel
theorem dX0_removeLast_14 : decode cX0_removeLast 14 = .ok (.iconst 1, 1) := by decide +kernel
theorem dX0_removeLast_15 : decode cX0_removeLast 15 = .ok (.isub, 1) := by decide +kernel
theorem dX0_removeLast_16 : decode cX0_removeLast 16 = .ok (.putfield 42, 3) := by decide +kernel
theorem dX0_removeLast_19 : decode cX0_removeLast 19 = .ok (.iconst 0, 1) := by decide +kernel
theorem dX0_removeLast_20 : decode cX0_removeLast 20 = .ok (.istore_n 1, 1) := by decide +kernel
theorem dX0_removeLast_21 : decode cX0_removeLast 21 = .ok (.iload_n 1, 1) := by decide +kernel
theorem dX0_removeLast_22 : decode cX0_removeLast 22 = .ok (.aload_n 0, 1) := by decide +kernel
theorem dX0_removeLast_23 : decode cX0_removeLast 23 = .ok (.getfield 42, 3) := by decide +kernel
theorem dX0_removeLast_26 : decode cX0_removeLast 26 = .ok (.if_icmp .ge 26, 3) := by decide +kernel
theorem dX0_removeLast_29 : decode cX0_removeLast 29 = .ok (.aload_n 0, 1) := by decide +kernel
theorem dX0_removeLast_30 : decode cX0_removeLast 30 = .ok (.getfield 13, 3) := by decide +kernel
theorem dX0_removeLast_33 : decode cX0_removeLast 33 = .ok (.iload_n 1, 1) := by decide +kernel
theorem dX0_removeLast_34 : decode cX0_removeLast 34 = .ok (.dup2, 1) := by decide +kernel
theorem dX0_removeLast_35 : decode cX0_removeLast 35 = .ok (.iaload, 1) := by decide +kernel
theorem dX0_removeLast_36 : decode cX0_removeLast 36 = .ok (.iconst 1, 1) := by decide +kernel
theorem dX0_removeLast_37 : decode cX0_removeLast 37 = .ok (.aload_n 0, 1) := by decide +kernel
theorem dX0_removeLast_38 : decode cX0_removeLast 38 = .ok (.getfield 42, 3) := by decide +kernel
theorem dX0_removeLast_41 : decode cX0_removeLast 41 = .ok (.ishl, 1) := by decide +kernel
theorem dX0_removeLast_42 : decode cX0_removeLast 42 = .ok (.iconst (-1), 1) := by decide +kernel
theorem dX0_removeLast_43 : decode cX0_removeLast 43 = .ok (.ixor, 1) := by decide +kernel
theorem dX0_removeLast_44 : decode cX0_removeLast 44 = .ok (.iand, 1) := by decide +kernel
theorem dX0_removeLast_45 : decode cX0_removeLast 45 = .ok (.iastore, 1) := by decide +kernel
theorem dX0_removeLast_46 : decode cX0_removeLast 46 = .ok (.iinc 1 1, 3) := by decide +kernel
theorem dX0_removeLast_49 : decode cX0_removeLast 49 = .ok (.goto (-28), 3) := by decide +kernel
theorem dX0_removeLast_52 : decode cX0_removeLast 52 = .ok (.aload_n 0, 1) := by decide +kernel
theorem dX0_removeLast_53 : decode cX0_removeLast 53 = .ok (.iconst 0, 1) := by decide +kernel
theorem dX0_removeLast_54 : decode cX0_removeLast 54 = .ok (.putfield 38, 3) := by decide +kernel
theorem dX0_removeLast_57 : decode cX0_removeLast 57 = .ok (.aload_n 0, 1) := by decide +kernel
theorem dX0_removeLast_58 : decode cX0_removeLast 58 = .ok (.getfield 42, 3) := by decide +kernel
theorem dX0_removeLast_61 : decode cX0_removeLast 61 = .ok (.ireturn, 1) := by decide +kernel
abbrev cX0_turn : ByteArray := prog_1_method_5_code
def yX0_turn : MethodName := ⟨RX0, "turn", "()I"⟩
theorem dX0_turn_0 : decode cX0_turn 0 = .ok (.aload_n 0, 1) := by decide +kernel
theorem dX0_turn_1 : decode cX0_turn 1 = .ok (.getfield 42, 3) := by decide +kernel
theorem dX0_turn_4 : decode cX0_turn 4 = .ok (.istore_n 1, 1) := by decide +kernel
theorem dX0_turn_5 : decode cX0_turn 5 = .ok (.iconst 0, 1) := by decide +kernel
theorem dX0_turn_6 : decode cX0_turn 6 = .ok (.istore_n 2, 1) := by decide +kernel
theorem dX0_turn_7 : decode cX0_turn 7 = .ok (.iload_n 2, 1) := by decide +kernel
theorem dX0_turn_8 : decode cX0_turn 8 = .ok (.iload_n 1, 1) := by decide +kernel
theorem dX0_turn_9 : decode cX0_turn 9 = .ok (.iconst 1, 1) := by decide +kernel
theorem dX0_turn_10 : decode cX0_turn 10 = .ok (.isub, 1) := by decide +kernel
theorem dX0_turn_11 : decode cX0_turn 11 = .ok (.iload_n 2, 1) := by decide +kernel
theorem dX0_turn_12 : decode cX0_turn 12 = .ok (.isub, 1) := by decide +kernel
theorem dX0_turn_13 : decode cX0_turn 13 = .ok (.if_icmp .ge 19, 3) := by decide +kernel
theorem dX0_turn_16 : decode cX0_turn 16 = .ok (.aload_n 0, 1) := by decide +kernel
theorem dX0_turn_17 : decode cX0_turn 17 = .ok (.iload_n 2, 1) := by decide +kernel
theorem dX0_turn_18 : decode cX0_turn 18 = .ok (.iload_n 1, 1) := by decide +kernel
theorem dX0_turn_19 : decode cX0_turn 19 = .ok (.iconst 1, 1) := by decide +kernel
theorem dX0_turn_20 : decode cX0_turn 20 = .ok (.isub, 1) := by decide +kernel
theorem dX0_turn_21 : decode cX0_turn 21 = .ok (.iload_n 2, 1) := by decide +kernel
theorem dX0_turn_22 : decode cX0_turn 22 = .ok (.isub, 1) := by decide +kernel
theorem dX0_turn_23 : decode cX0_turn 23 = .ok (.invokevirtual 63, 3) := by decide +kernel
theorem dX0_turn_26 : decode cX0_turn 26 = .ok (.iinc 2 1, 3) := by decide +kernel
theorem dX0_turn_29 : decode cX0_turn 29 = .ok (.goto (-22), 3) := by decide +kernel
theorem dX0_turn_32 : decode cX0_turn 32 = .ok (.iconst 0, 1) := by decide +kernel
theorem dX0_turn_33 : decode cX0_turn 33 = .ok (.istore_n 2, 1) := by decide +kernel
theorem dX0_turn_34 : decode cX0_turn 34 = .ok (.iload_n 2, 1) := by decide +kernel
theorem dX0_turn_35 : decode cX0_turn 35 = .ok (.iload_n 1, 1) := by decide +kernel
theorem dX0_turn_36 : decode cX0_turn 36 = .ok (.if_icmp .ge 45, 3) := by decide +kernel
theorem dX0_turn_39 : decode cX0_turn 39 = .ok (.aload_n 0, 1) := by decide +kernel
theorem dX0_turn_40 : decode cX0_turn 40 = .ok (.aload_n 0, 1) := by decide +kernel
theorem dX0_turn_41 : decode cX0_turn 41 = .ok (.getfield 13, 3) := by decide +kernel
theorem dX0_turn_44 : decode cX0_turn 44 = .ok (.iload_n 2, 1) := by decide +kernel
theorem dX0_turn_45 : decode cX0_turn 45 = .ok (.iaload, 1) := by decide +kernel
theorem dX0_turn_46 : decode cX0_turn 46 = .ok (.iload_n 1, 1) := by decide +kernel
theorem dX0_turn_47 : decode cX0_turn 47 = .ok (.invokevirtual 67, 3) := by decide +kernel
theorem dX0_turn_50 : decode cX0_turn 50 = .ok (.istore_n 3, 1) := by decide +kernel
theorem dX0_turn_51 : decode cX0_turn 51 = .ok (.aload_n 0, 1) := by decide +kernel
theorem dX0_turn_52 : decode cX0_turn 52 = .ok (.getfield 13, 3) := by decide +kernel
theorem dX0_turn_55 : decode cX0_turn 55 = .ok (.iload_n 2, 1) := by decide +kernel
theorem dX0_turn_56 : decode cX0_turn 56 = .ok (.aload_n 0, 1) := by decide +kernel
theorem dX0_turn_57 : decode cX0_turn 57 = .ok (.aload_n 0, 1) := by decide +kernel
theorem dX0_turn_58 : decode cX0_turn 58 = .ok (.getfield 7, 3) := by decide +kernel
theorem dX0_turn_61 : decode cX0_turn 61 = .ok (.iload_n 2, 1) := by decide +kernel
theorem dX0_turn_62 : decode cX0_turn 62 = .ok (.iaload, 1) := by decide +kernel
theorem dX0_turn_63 : decode cX0_turn 63 = .ok (.iload_n 1, 1) := by decide +kernel
theorem dX0_turn_64 : decode cX0_turn 64 = .ok (.invokevirtual 67, 3) := by decide +kernel
theorem dX0_turn_67 : decode cX0_turn 67 = .ok (.iastore, 1) := by decide +kernel
theorem dX0_turn_68 : decode cX0_turn 68 = .ok (.aload_n 0, 1) := by decide +kernel
theorem dX0_turn_69 : decode cX0_turn 69 = .ok (.getfield 7, 3) := by decide +kernel
theorem dX0_turn_72 : decode cX0_turn 72 = .ok (.iload_n 2, 1) := by decide +kernel
theorem dX0_turn_73 : decode cX0_turn 73 = .ok (.iload_n 3, 1) := by decide +kernel
theorem dX0_turn_74 : decode cX0_turn 74 = .ok (.iastore, 1) := by decide +kernel
theorem dX0_turn_75 : decode cX0_turn 75 = .ok (.iinc 2 1, 3) := by decide +kernel
theorem dX0_turn_78 : decode cX0_turn 78 = .ok (.goto (-44), 3) := by decide +kernel
theorem dX0_turn_81 : decode cX0_turn 81 = .ok (.aload_n 0, 1) := by decide +kernel
theorem dX0_turn_82 : decode cX0_turn 82 = .ok (.iconst 0, 1) := by decide +kernel
theorem dX0_turn_83 : decode cX0_turn 83 = .ok (.putfield 38, 3) := by decide +kernel
theorem dX0_turn_86 : decode cX0_turn 86 = .ok (.iload_n 1, 1) := by decide +kernel
theorem dX0_turn_87 : decode cX0_turn 87 = .ok (.ireturn, 1) := by decide +kernel
abbrev cX0_exchangeSets : ByteArray := prog_1_method_6_code
def yX0_exchangeSets : MethodName := ⟨RX0, "exchangeSets", "(II)V"⟩
theorem dX0_exchangeSets_0 : decode cX0_exchangeSets 0 = .ok (.aload_n 0, 1) := by decide +kernel
theorem dX0_exchangeSets_1 : decode cX0_exchangeSets 1 = .ok (.getfield 7, 3) := by decide +kernel
theorem dX0_exchangeSets_4 : decode cX0_exchangeSets 4 = .ok (.iload_n 1, 1) := by decide +kernel
theorem dX0_exchangeSets_5 : decode cX0_exchangeSets 5 = .ok (.iaload, 1) := by decide +kernel
theorem dX0_exchangeSets_6 : decode cX0_exchangeSets 6 = .ok (.istore_n 3, 1) := by decide +kernel
theorem dX0_exchangeSets_7 : decode cX0_exchangeSets 7 = .ok (.aload_n 0, 1) := by decide +kernel
theorem dX0_exchangeSets_8 : decode cX0_exchangeSets 8 = .ok (.getfield 7, 3) := by decide +kernel
theorem dX0_exchangeSets_11 : decode cX0_exchangeSets 11 = .ok (.iload_n 1, 1) := by decide +kernel
theorem dX0_exchangeSets_12 : decode cX0_exchangeSets 12 = .ok (.aload_n 0, 1) := by decide +kernel
theorem dX0_exchangeSets_13 : decode cX0_exchangeSets 13 = .ok (.getfield 7, 3) := by decide +kernel
theorem dX0_exchangeSets_16 : decode cX0_exchangeSets 16 = .ok (.iload_n 2, 1) := by decide +kernel
theorem dX0_exchangeSets_17 : decode cX0_exchangeSets 17 = .ok (.iaload, 1) := by decide +kernel
theorem dX0_exchangeSets_18 : decode cX0_exchangeSets 18 = .ok (.iastore, 1) := by decide +kernel
theorem dX0_exchangeSets_19 : decode cX0_exchangeSets 19 = .ok (.aload_n 0, 1) := by decide +kernel
theorem dX0_exchangeSets_20 : decode cX0_exchangeSets 20 = .ok (.getfield 7, 3) := by decide +kernel
theorem dX0_exchangeSets_23 : decode cX0_exchangeSets 23 = .ok (.iload_n 2, 1) := by decide +kernel
theorem dX0_exchangeSets_24 : decode cX0_exchangeSets 24 = .ok (.iload_n 3, 1) := by decide +kernel
theorem dX0_exchangeSets_25 : decode cX0_exchangeSets 25 = .ok (.iastore, 1) := by decide +kernel
theorem dX0_exchangeSets_26 : decode cX0_exchangeSets 26 = .ok (.aload_n 0, 1) := by decide +kernel
theorem dX0_exchangeSets_27 : decode cX0_exchangeSets 27 = .ok (.getfield 13, 3) := by decide +kernel
theorem dX0_exchangeSets_30 : decode cX0_exchangeSets 30 = .ok (.iload_n 1, 1) := by decide +kernel
theorem dX0_exchangeSets_31 : decode cX0_exchangeSets 31 = .ok (.iaload, 1) := by decide +kernel
theorem dX0_exchangeSets_32 : decode cX0_exchangeSets 32 = .ok (.istore_n 3, 1) := by decide +kernel
theorem dX0_exchangeSets_33 : decode cX0_exchangeSets 33 = .ok (.aload_n 0, 1) := by decide +kernel
theorem dX0_exchangeSets_34 : decode cX0_exchangeSets 34 = .ok (.getfield 13, 3) := by decide +kernel
theorem dX0_exchangeSets_37 : decode cX0_exchangeSets 37 = .ok (.iload_n 1, 1) := by decide +kernel
theorem dX0_exchangeSets_38 : decode cX0_exchangeSets 38 = .ok (.aload_n 0, 1) := by decide +kernel
theorem dX0_exchangeSets_39 : decode cX0_exchangeSets 39 = .ok (.getfield 13, 3) := by decide +kernel
theorem dX0_exchangeSets_42 : decode cX0_exchangeSets 42 = .ok (.iload_n 2, 1) := by decide +kernel
theorem dX0_exchangeSets_43 : decode cX0_exchangeSets 43 = .ok (.iaload, 1) := by decide +kernel
theorem dX0_exchangeSets_44 : decode cX0_exchangeSets 44 = .ok (.iastore, 1) := by decide +kernel
theorem dX0_exchangeSets_45 : decode cX0_exchangeSets 45 = .ok (.aload_n 0, 1) := by decide +kernel
theorem dX0_exchangeSets_46 : decode cX0_exchangeSets 46 = .ok (.getfield 13, 3) := by decide +kernel
theorem dX0_exchangeSets_49 : decode cX0_exchangeSets 49 = .ok (.iload_n 2, 1) := by decide +kernel
theorem dX0_exchangeSets_50 : decode cX0_exchangeSets 50 = .ok (.iload_n 3, 1) := by decide +kernel
theorem dX0_exchangeSets_51 : decode cX0_exchangeSets 51 = .ok (.iastore, 1) := by decide +kernel
theorem dX0_exchangeSets_52 : decode cX0_exchangeSets 52 = .ok (.return_, 1) := by decide +kernel
end
section
set_option maxRecDepth 100000
abbrev cX0_reversed : ByteArray := prog_1_method_7_code
def yX0_reversed : MethodName := ⟨RX0, "reversed", "(II)I"⟩
theorem dX0_reversed_0 : decode cX0_reversed 0 = .ok (.iconst 0, 1) := by decide +kernel
theorem dX0_reversed_1 : decode cX0_reversed 1 = .ok (.istore_n 3, 1) := by decide +kernel
theorem dX0_reversed_2 : decode cX0_reversed 2 = .ok (.iconst 0, 1) := by decide +kernel
theorem dX0_reversed_3 : decode cX0_reversed 3 = .ok (.istore 4, 2) := by decide +kernel
theorem dX0_reversed_5 : decode cX0_reversed 5 = .ok (.iload 4, 2) := by decide +kernel
theorem dX0_reversed_7 : decode cX0_reversed 7 = .ok (.iload_n 2, 1) := by decide +kernel
theorem dX0_reversed_8 : decode cX0_reversed 8 = .ok (.if_icmp .ge 29, 3) := by decide +kernel
theorem dX0_reversed_11 : decode cX0_reversed 11 = .ok (.iload_n 1, 1) := by decide +kernel
theorem dX0_reversed_12 : decode cX0_reversed 12 = .ok (.iload 4, 2) := by decide +kernel
theorem dX0_reversed_14 : decode cX0_reversed 14 = .ok (.ishr, 1) := by decide +kernel
theorem dX0_reversed_15 : decode cX0_reversed 15 = .ok (.iconst 1, 1) := by decide +kernel
theorem dX0_reversed_16 : decode cX0_reversed 16 = .ok (.iand, 1) := by decide +kernel
theorem dX0_reversed_17 : decode cX0_reversed 17 = .ok (.ifCond .eq 14, 3) := by decide +kernel
theorem dX0_reversed_20 : decode cX0_reversed 20 = .ok (.iload_n 3, 1) := by decide +kernel
theorem dX0_reversed_21 : decode cX0_reversed 21 = .ok (.iconst 1, 1) := by decide +kernel
theorem dX0_reversed_22 : decode cX0_reversed 22 = .ok (.iload_n 2, 1) := by decide +kernel
theorem dX0_reversed_23 : decode cX0_reversed 23 = .ok (.iconst 1, 1) := by decide +kernel
theorem dX0_reversed_24 : decode cX0_reversed 24 = .ok (.isub, 1) := by decide +kernel
theorem dX0_reversed_25 : decode cX0_reversed 25 = .ok (.iload 4, 2) := by decide +kernel
theorem dX0_reversed_27 : decode cX0_reversed 27 = .ok (.isub, 1) := by decide +kernel
theorem dX0_reversed_28 : decode cX0_reversed 28 = .ok (.ishl, 1) := by decide +kernel
theorem dX0_reversed_29 : decode cX0_reversed 29 = .ok (.ior, 1) := by decide +kernel
theorem dX0_reversed_30 : decode cX0_reversed 30 = .ok (.istore_n 3, 1) := by decide +kernel
theorem dX0_reversed_31 : decode cX0_reversed 31 = .ok (.iinc 4 1, 3) := by decide +kernel
theorem dX0_reversed_34 : decode cX0_reversed 34 = .ok (.goto (-29), 3) := by decide +kernel
theorem dX0_reversed_37 : decode cX0_reversed 37 = .ok (.iload_n 3, 1) := by decide +kernel
theorem dX0_reversed_38 : decode cX0_reversed 38 = .ok (.ireturn, 1) := by decide +kernel
abbrev cX0_size : ByteArray := prog_1_method_8_code
def yX0_size : MethodName := ⟨RX0, "size", "()I"⟩
theorem dX0_size_0 : decode cX0_size 0 = .ok (.aload_n 0, 1) := by decide +kernel
theorem dX0_size_1 : decode cX0_size 1 = .ok (.getfield 42, 3) := by decide +kernel
theorem dX0_size_4 : decode cX0_size 4 = .ok (.ireturn, 1) := by decide +kernel
abbrev cX0_below : ByteArray := prog_1_method_9_code
def yX0_below : MethodName := ⟨RX0, "below", "(II)Z"⟩
theorem dX0_below_0 : decode cX0_below 0 = .ok (.aload_n 0, 1) := by decide +kernel
theorem dX0_below_1 : decode cX0_below 1 = .ok (.iload_n 1, 1) := by decide +kernel
theorem dX0_below_2 : decode cX0_below 2 = .ok (.invokevirtual 71, 3) := by decide +kernel
theorem dX0_below_5 : decode cX0_below 5 = .ok (.ifCond .eq 28, 3) := by decide +kernel
theorem dX0_below_8 : decode cX0_below 8 = .ok (.aload_n 0, 1) := by decide +kernel
theorem dX0_below_9 : decode cX0_below 9 = .ok (.iload_n 2, 1) := by decide +kernel
theorem dX0_below_10 : decode cX0_below 10 = .ok (.invokevirtual 71, 3) := by decide +kernel
theorem dX0_below_13 : decode cX0_below 13 = .ok (.ifCond .eq 20, 3) := by decide +kernel
theorem dX0_below_16 : decode cX0_below 16 = .ok (.aload_n 0, 1) := by decide +kernel
theorem dX0_below_17 : decode cX0_below 17 = .ok (.getfield 7, 3) := by decide +kernel
theorem dX0_below_20 : decode cX0_below 20 = .ok (.iload_n 2, 1) := by decide +kernel
theorem dX0_below_21 : decode cX0_below 21 = .ok (.iaload, 1) := by decide +kernel
theorem dX0_below_22 : decode cX0_below 22 = .ok (.iload_n 1, 1) := by decide +kernel
theorem dX0_below_23 : decode cX0_below 23 = .ok (.ishr, 1) := by decide +kernel
theorem dX0_below_24 : decode cX0_below 24 = .ok (.iconst 1, 1) := by decide +kernel
theorem dX0_below_25 : decode cX0_below 25 = .ok (.iand, 1) := by decide +kernel
theorem dX0_below_26 : decode cX0_below 26 = .ok (.ifCond .eq 7, 3) := by decide +kernel
theorem dX0_below_29 : decode cX0_below 29 = .ok (.iconst 1, 1) := by decide +kernel
theorem dX0_below_30 : decode cX0_below 30 = .ok (.goto 4, 3) := by decide +kernel
theorem dX0_below_33 : decode cX0_below 33 = .ok (.iconst 0, 1) := by decide +kernel
theorem dX0_below_34 : decode cX0_below 34 = .ok (.ireturn, 1) := by decide +kernel
abbrev cX0_isElement : ByteArray := prog_1_method_18_code
def yX0_isElement : MethodName := ⟨RX0, "isElement", "(I)Z"⟩
theorem dX0_isElement_0 : decode cX0_isElement 0 = .ok (.iload_n 1, 1) := by decide +kernel
theorem dX0_isElement_1 : decode cX0_isElement 1 = .ok (.ifCond .lt 15, 3) := by decide +kernel
theorem dX0_isElement_4 : decode cX0_isElement 4 = .ok (.iload_n 1, 1) := by decide +kernel
theorem dX0_isElement_5 : decode cX0_isElement 5 = .ok (.aload_n 0, 1) := by decide +kernel
theorem dX0_isElement_6 : decode cX0_isElement 6 = .ok (.getfield 42, 3) := by decide +kernel
theorem dX0_isElement_9 : decode cX0_isElement 9 = .ok (.if_icmp .ge 7, 3) := by decide +kernel
theorem dX0_isElement_12 : decode cX0_isElement 12 = .ok (.iconst 1, 1) := by decide +kernel
theorem dX0_isElement_13 : decode cX0_isElement 13 = .ok (.goto 4, 3) := by decide +kernel
theorem dX0_isElement_16 : decode cX0_isElement 16 = .ok (.iconst 0, 1) := by decide +kernel
theorem dX0_isElement_17 : decode cX0_isElement 17 = .ok (.ireturn, 1) := by decide +kernel
abbrev cX0_width : ByteArray := prog_1_method_10_code
def yX0_width : MethodName := ⟨RX0, "width", "(I)I"⟩
theorem dX0_width_0 : decode cX0_width 0 = .ok (.aload_n 0, 1) := by decide +kernel
theorem dX0_width_1 : decode cX0_width 1 = .ok (.iload_n 1, 1) := by decide +kernel
theorem dX0_width_2 : decode cX0_width 2 = .ok (.invokevirtual 46, 3) := by decide +kernel
theorem dX0_width_5 : decode cX0_width 5 = .ok (.ifCond .ne 5, 3) := by decide +kernel
theorem dX0_width_8 : decode cX0_width 8 = .ok (.iconst (-1), 1) := by decide +kernel
theorem dX0_width_9 : decode cX0_width 9 = .ok (.ireturn, 1) := by decide +kernel
theorem dX0_width_10 : decode cX0_width 10 = .ok (.aload_n 0, 1) := by decide +kernel
theorem dX0_width_11 : decode cX0_width 11 = .ok (.iload_n 1, 1) := by decide +kernel
theorem dX0_width_12 : decode cX0_width 12 = .ok (.invokevirtual 74, 3) := by decide +kernel
theorem dX0_width_15 : decode cX0_width 15 = .ok (.aload_n 0, 1) := by decide +kernel
theorem dX0_width_16 : decode cX0_width 16 = .ok (.iload_n 1, 1) := by decide +kernel
theorem dX0_width_17 : decode cX0_width 17 = .ok (.invokevirtual 78, 3) := by decide +kernel
theorem dX0_width_20 : decode cX0_width 20 = .ok (.isub, 1) := by decide +kernel
theorem dX0_width_21 : decode cX0_width 21 = .ok (.ireturn, 1) := by decide +kernel
abbrev cX0_bitsIn : ByteArray := prog_1_method_20_code
def yX0_bitsIn : MethodName := ⟨RX0, "bitsIn", "(I)I"⟩
theorem dX0_bitsIn_0 : decode cX0_bitsIn 0 = .ok (.iconst 0, 1) := by decide +kernel
theorem dX0_bitsIn_1 : decode cX0_bitsIn 1 = .ok (.istore_n 2, 1) := by decide +kernel
theorem dX0_bitsIn_2 : decode cX0_bitsIn 2 = .ok (.iconst 0, 1) := by decide +kernel
theorem dX0_bitsIn_3 : decode cX0_bitsIn 3 = .ok (.istore_n 3, 1) := by decide +kernel
theorem dX0_bitsIn_4 : decode cX0_bitsIn 4 = .ok (.iload_n 3, 1) := by decide +kernel
theorem dX0_bitsIn_5 : decode cX0_bitsIn 5 = .ok (.bipush 10, 2) := by decide +kernel
theorem dX0_bitsIn_7 : decode cX0_bitsIn 7 = .ok (.if_icmp .ge 17, 3) := by decide +kernel
theorem dX0_bitsIn_10 : decode cX0_bitsIn 10 = .ok (.iload_n 2, 1) := by decide +kernel
theorem dX0_bitsIn_11 : decode cX0_bitsIn 11 = .ok (.iload_n 1, 1) := by decide +kernel
theorem dX0_bitsIn_12 : decode cX0_bitsIn 12 = .ok (.iload_n 3, 1) := by decide +kernel
theorem dX0_bitsIn_13 : decode cX0_bitsIn 13 = .ok (.ishr, 1) := by decide +kernel
theorem dX0_bitsIn_14 : decode cX0_bitsIn 14 = .ok (.iconst 1, 1) := by decide +kernel
theorem dX0_bitsIn_15 : decode cX0_bitsIn 15 = .ok (.iand, 1) := by decide +kernel
theorem dX0_bitsIn_16 : decode cX0_bitsIn 16 = .ok (.iadd, 1) := by decide +kernel
theorem dX0_bitsIn_17 : decode cX0_bitsIn 17 = .ok (.istore_n 2, 1) := by decide +kernel
theorem dX0_bitsIn_18 : decode cX0_bitsIn 18 = .ok (.iinc 3 1, 3) := by decide +kernel
theorem dX0_bitsIn_21 : decode cX0_bitsIn 21 = .ok (.goto (-17), 3) := by decide +kernel
theorem dX0_bitsIn_24 : decode cX0_bitsIn 24 = .ok (.iload_n 2, 1) := by decide +kernel
theorem dX0_bitsIn_25 : decode cX0_bitsIn 25 = .ok (.ireturn, 1) := by decide +kernel
abbrev cX0_couplesWithin : ByteArray := prog_1_method_24_code
def yX0_couplesWithin : MethodName := ⟨RX0, "couplesWithin", "(I)I"⟩
theorem dX0_couplesWithin_0 : decode cX0_couplesWithin 0 = .ok (.iload_n 1, 1) := by decide +kernel
theorem dX0_couplesWithin_1 : decode cX0_couplesWithin 1 = .ok (.iconst 1, 1) := by decide +kernel
theorem dX0_couplesWithin_2 : decode cX0_couplesWithin 2 = .ok (.aload_n 0, 1) := by decide +kernel
theorem dX0_couplesWithin_3 : decode cX0_couplesWithin 3 = .ok (.getfield 42, 3) := by decide +kernel
theorem dX0_couplesWithin_6 : decode cX0_couplesWithin 6 = .ok (.ishl, 1) := by decide +kernel
theorem dX0_couplesWithin_7 : decode cX0_couplesWithin 7 = .ok (.iconst 1, 1) := by decide +kernel
theorem dX0_couplesWithin_8 : decode cX0_couplesWithin 8 = .ok (.isub, 1) := by decide +kernel
theorem dX0_couplesWithin_9 : decode cX0_couplesWithin 9 = .ok (.if_icmp .ne 10, 3) := by decide +kernel
theorem dX0_couplesWithin_12 : decode cX0_couplesWithin 12 = .ok (.aload_n 0, 1) := by decide +kernel
theorem dX0_couplesWithin_13 : decode cX0_couplesWithin 13 = .ok (.invokevirtual 84, 3) := by decide +kernel
theorem dX0_couplesWithin_16 : decode cX0_couplesWithin 16 = .ok (.goto 8, 3) := by decide +kernel
theorem dX0_couplesWithin_19 : decode cX0_couplesWithin 19 = .ok (.aload_n 0, 1) := by decide +kernel
theorem dX0_couplesWithin_20 : decode cX0_couplesWithin 20 = .ok (.iload_n 1, 1) := by decide +kernel
theorem dX0_couplesWithin_21 : decode cX0_couplesWithin 21 = .ok (.invokevirtual 90, 3) := by decide +kernel
theorem dX0_couplesWithin_24 : decode cX0_couplesWithin 24 = .ok (.iconst 0, 1) := by decide +kernel
theorem dX0_couplesWithin_25 : decode cX0_couplesWithin 25 = .ok (.istore_n 2, 1) := by decide +kernel
theorem dX0_couplesWithin_26 : decode cX0_couplesWithin 26 = .ok (.iconst 0, 1) := by decide +kernel
theorem dX0_couplesWithin_27 : decode cX0_couplesWithin 27 = .ok (.istore_n 3, 1) := by decide +kernel
theorem dX0_couplesWithin_28 : decode cX0_couplesWithin 28 = .ok (.iload_n 3, 1) := by decide +kernel
theorem dX0_couplesWithin_29 : decode cX0_couplesWithin 29 = .ok (.aload_n 0, 1) := by decide +kernel
theorem dX0_couplesWithin_30 : decode cX0_couplesWithin 30 = .ok (.getfield 42, 3) := by decide +kernel
theorem dX0_couplesWithin_33 : decode cX0_couplesWithin 33 = .ok (.if_icmp .ge 21, 3) := by decide +kernel
theorem dX0_couplesWithin_36 : decode cX0_couplesWithin 36 = .ok (.aload_n 0, 1) := by decide +kernel
theorem dX0_couplesWithin_37 : decode cX0_couplesWithin 37 = .ok (.getfield 23, 3) := by decide +kernel
theorem dX0_couplesWithin_40 : decode cX0_couplesWithin 40 = .ok (.iload_n 3, 1) := by decide +kernel
theorem dX0_couplesWithin_41 : decode cX0_couplesWithin 41 = .ok (.baload, 1) := by decide +kernel
theorem dX0_couplesWithin_42 : decode cX0_couplesWithin 42 = .ok (.ifCond .lt 6, 3) := by decide +kernel
theorem dX0_couplesWithin_45 : decode cX0_couplesWithin 45 = .ok (.iinc 2 1, 3) := by decide +kernel
theorem dX0_couplesWithin_48 : decode cX0_couplesWithin 48 = .ok (.iinc 3 1, 3) := by decide +kernel
theorem dX0_couplesWithin_51 : decode cX0_couplesWithin 51 = .ok (.goto (-23), 3) := by decide +kernel
theorem dX0_couplesWithin_54 : decode cX0_couplesWithin 54 = .ok (.iload_n 2, 1) := by decide +kernel
theorem dX0_couplesWithin_55 : decode cX0_couplesWithin 55 = .ok (.ireturn, 1) := by decide +kernel
abbrev cX0_matchAll : ByteArray := prog_1_method_23_code
def yX0_matchAll : MethodName := ⟨RX0, "matchAll", "()V"⟩
theorem dX0_matchAll_0 : decode cX0_matchAll 0 = .ok (.aload_n 0, 1) := by decide +kernel
theorem dX0_matchAll_1 : decode cX0_matchAll 1 = .ok (.getfield 38, 3) := by decide +kernel
theorem dX0_matchAll_4 : decode cX0_matchAll 4 = .ok (.ifCond .eq 8, 3) := by decide +kernel
theorem dX0_matchAll_7 : decode cX0_matchAll 7 = .ok (.aload_n 0, 1) := by decide +kernel
theorem dX0_matchAll_8 : decode cX0_matchAll 8 = .ok (.invokevirtual 53, 3) := by decide +kernel
theorem dX0_matchAll_11 : decode cX0_matchAll 11 = .ok (.return_, 1) := by decide +kernel
theorem dX0_matchAll_12 : decode cX0_matchAll 12 = .ok (.aload_n 0, 1) := by decide +kernel
theorem dX0_matchAll_13 : decode cX0_matchAll 13 = .ok (.iconst 1, 1) := by decide +kernel
theorem dX0_matchAll_14 : decode cX0_matchAll 14 = .ok (.aload_n 0, 1) := by decide +kernel
theorem dX0_matchAll_15 : decode cX0_matchAll 15 = .ok (.getfield 42, 3) := by decide +kernel
theorem dX0_matchAll_18 : decode cX0_matchAll 18 = .ok (.ishl, 1) := by decide +kernel
theorem dX0_matchAll_19 : decode cX0_matchAll 19 = .ok (.iconst 1, 1) := by decide +kernel
theorem dX0_matchAll_20 : decode cX0_matchAll 20 = .ok (.isub, 1) := by decide +kernel
theorem dX0_matchAll_21 : decode cX0_matchAll 21 = .ok (.invokevirtual 90, 3) := by decide +kernel
theorem dX0_matchAll_24 : decode cX0_matchAll 24 = .ok (.aload_n 0, 1) := by decide +kernel
theorem dX0_matchAll_25 : decode cX0_matchAll 25 = .ok (.invokevirtual 60, 3) := by decide +kernel
theorem dX0_matchAll_28 : decode cX0_matchAll 28 = .ok (.aload_n 0, 1) := by decide +kernel
theorem dX0_matchAll_29 : decode cX0_matchAll 29 = .ok (.iconst 1, 1) := by decide +kernel
theorem dX0_matchAll_30 : decode cX0_matchAll 30 = .ok (.putfield 38, 3) := by decide +kernel
theorem dX0_matchAll_33 : decode cX0_matchAll 33 = .ok (.return_, 1) := by decide +kernel
abbrev cX0_pairUp : ByteArray := prog_1_method_25_code
def yX0_pairUp : MethodName := ⟨RX0, "pairUp", "(I)V"⟩
theorem dX0_pairUp_0 : decode cX0_pairUp 0 = .ok (.iconst 0, 1) := by decide +kernel
theorem dX0_pairUp_1 : decode cX0_pairUp 1 = .ok (.istore_n 2, 1) := by decide +kernel
theorem dX0_pairUp_2 : decode cX0_pairUp 2 = .ok (.iload_n 2, 1) := by decide +kernel
theorem dX0_pairUp_3 : decode cX0_pairUp 3 = .ok (.aload_n 0, 1) := by decide +kernel
theorem dX0_pairUp_4 : decode cX0_pairUp 4 = .ok (.getfield 42, 3) := by decide +kernel
theorem dX0_pairUp_7 : decode cX0_pairUp 7 = .ok (.if_icmp .ge 23, 3) := by decide +kernel
theorem dX0_pairUp_10 : decode cX0_pairUp 10 = .ok (.aload_n 0, 1) := by decide +kernel
theorem dX0_pairUp_11 : decode cX0_pairUp 11 = .ok (.getfield 23, 3) := by decide +kernel
theorem dX0_pairUp_14 : decode cX0_pairUp 14 = .ok (.iload_n 2, 1) := by decide +kernel
theorem dX0_pairUp_15 : decode cX0_pairUp 15 = .ok (.iconst (-1), 1) := by decide +kernel
theorem dX0_pairUp_16 : decode cX0_pairUp 16 = .ok (.bastore, 1) := by decide +kernel
theorem dX0_pairUp_17 : decode cX0_pairUp 17 = .ok (.aload_n 0, 1) := by decide +kernel
theorem dX0_pairUp_18 : decode cX0_pairUp 18 = .ok (.getfield 26, 3) := by decide +kernel
theorem dX0_pairUp_21 : decode cX0_pairUp 21 = .ok (.iload_n 2, 1) := by decide +kernel
theorem dX0_pairUp_22 : decode cX0_pairUp 22 = .ok (.iconst (-1), 1) := by decide +kernel
theorem dX0_pairUp_23 : decode cX0_pairUp 23 = .ok (.bastore, 1) := by decide +kernel
theorem dX0_pairUp_24 : decode cX0_pairUp 24 = .ok (.iinc 2 1, 3) := by decide +kernel
theorem dX0_pairUp_27 : decode cX0_pairUp 27 = .ok (.goto (-25), 3) := by decide +kernel
theorem dX0_pairUp_30 : decode cX0_pairUp 30 = .ok (.iconst 0, 1) := by decide +kernel
theorem dX0_pairUp_31 : decode cX0_pairUp 31 = .ok (.istore_n 2, 1) := by decide +kernel
theorem dX0_pairUp_32 : decode cX0_pairUp 32 = .ok (.iload_n 2, 1) := by decide +kernel
theorem dX0_pairUp_33 : decode cX0_pairUp 33 = .ok (.aload_n 0, 1) := by decide +kernel
theorem dX0_pairUp_34 : decode cX0_pairUp 34 = .ok (.getfield 42, 3) := by decide +kernel
theorem dX0_pairUp_37 : decode cX0_pairUp 37 = .ok (.if_icmp .ge 24, 3) := by decide +kernel
theorem dX0_pairUp_40 : decode cX0_pairUp 40 = .ok (.iload_n 1, 1) := by decide +kernel
theorem dX0_pairUp_41 : decode cX0_pairUp 41 = .ok (.iload_n 2, 1) := by decide +kernel
theorem dX0_pairUp_42 : decode cX0_pairUp 42 = .ok (.ishr, 1) := by decide +kernel
theorem dX0_pairUp_43 : decode cX0_pairUp 43 = .ok (.iconst 1, 1) := by decide +kernel
theorem dX0_pairUp_44 : decode cX0_pairUp 44 = .ok (.iand, 1) := by decide +kernel
theorem dX0_pairUp_45 : decode cX0_pairUp 45 = .ok (.ifCond .eq 10, 3) := by decide +kernel
theorem dX0_pairUp_48 : decode cX0_pairUp 48 = .ok (.aload_n 0, 1) := by decide +kernel
theorem dX0_pairUp_49 : decode cX0_pairUp 49 = .ok (.iload_n 2, 1) := by decide +kernel
theorem dX0_pairUp_50 : decode cX0_pairUp 50 = .ok (.iload_n 1, 1) := by decide +kernel
theorem dX0_pairUp_51 : decode cX0_pairUp 51 = .ok (.invokevirtual 56, 3) := by decide +kernel
theorem dX0_pairUp_54 : decode cX0_pairUp 54 = .ok (.pop, 1) := by decide +kernel
theorem dX0_pairUp_55 : decode cX0_pairUp 55 = .ok (.iinc 2 1, 3) := by decide +kernel
theorem dX0_pairUp_58 : decode cX0_pairUp 58 = .ok (.goto (-26), 3) := by decide +kernel
theorem dX0_pairUp_61 : decode cX0_pairUp 61 = .ok (.return_, 1) := by decide +kernel
abbrev cX0_chains : ByteArray := prog_1_method_11_code
def yX0_chains : MethodName := ⟨RX0, "chains", "(I)I"⟩
theorem dX0_chains_0 : decode cX0_chains 0 = .ok (.aload_n 0, 1) := by decide +kernel
theorem dX0_chains_1 : decode cX0_chains 1 = .ok (.iload_n 1, 1) := by decide +kernel
theorem dX0_chains_2 : decode cX0_chains 2 = .ok (.invokevirtual 46, 3) := by decide +kernel
theorem dX0_chains_5 : decode cX0_chains 5 = .ok (.ifCond .ne 5, 3) := by decide +kernel
theorem dX0_chains_8 : decode cX0_chains 8 = .ok (.iconst (-1), 1) := by decide +kernel
theorem dX0_chains_9 : decode cX0_chains 9 = .ok (.ireturn, 1) := by decide +kernel
theorem dX0_chains_10 : decode cX0_chains 10 = .ok (.aload_n 0, 1) := by decide +kernel
theorem dX0_chains_11 : decode cX0_chains 11 = .ok (.iload_n 1, 1) := by decide +kernel
theorem dX0_chains_12 : decode cX0_chains 12 = .ok (.invokevirtual 78, 3) := by decide +kernel
theorem dX0_chains_15 : decode cX0_chains 15 = .ok (.pop, 1) := by decide +kernel
theorem dX0_chains_16 : decode cX0_chains 16 = .ok (.iconst 0, 1) := by decide +kernel
theorem dX0_chains_17 : decode cX0_chains 17 = .ok (.istore_n 2, 1) := by decide +kernel
theorem dX0_chains_18 : decode cX0_chains 18 = .ok (.iconst 0, 1) := by decide +kernel
theorem dX0_chains_19 : decode cX0_chains 19 = .ok (.istore_n 3, 1) := by decide +kernel
theorem dX0_chains_20 : decode cX0_chains 20 = .ok (.iload_n 3, 1) := by decide +kernel
theorem dX0_chains_21 : decode cX0_chains 21 = .ok (.aload_n 0, 1) := by decide +kernel
theorem dX0_chains_22 : decode cX0_chains 22 = .ok (.getfield 42, 3) := by decide +kernel
theorem dX0_chains_25 : decode cX0_chains 25 = .ok (.if_icmp .ge 29, 3) := by decide +kernel
theorem dX0_chains_28 : decode cX0_chains 28 = .ok (.iload_n 1, 1) := by decide +kernel
theorem dX0_chains_29 : decode cX0_chains 29 = .ok (.iload_n 3, 1) := by decide +kernel
theorem dX0_chains_30 : decode cX0_chains 30 = .ok (.ishr, 1) := by decide +kernel
theorem dX0_chains_31 : decode cX0_chains 31 = .ok (.iconst 1, 1) := by decide +kernel
theorem dX0_chains_32 : decode cX0_chains 32 = .ok (.iand, 1) := by decide +kernel
theorem dX0_chains_33 : decode cX0_chains 33 = .ok (.ifCond .eq 15, 3) := by decide +kernel
theorem dX0_chains_36 : decode cX0_chains 36 = .ok (.aload_n 0, 1) := by decide +kernel
theorem dX0_chains_37 : decode cX0_chains 37 = .ok (.getfield 23, 3) := by decide +kernel
theorem dX0_chains_40 : decode cX0_chains 40 = .ok (.iload_n 3, 1) := by decide +kernel
theorem dX0_chains_41 : decode cX0_chains 41 = .ok (.baload, 1) := by decide +kernel
theorem dX0_chains_42 : decode cX0_chains 42 = .ok (.ifCond .ge 6, 3) := by decide +kernel
theorem dX0_chains_45 : decode cX0_chains 45 = .ok (.iinc 2 1, 3) := by decide +kernel
theorem dX0_chains_48 : decode cX0_chains 48 = .ok (.iinc 3 1, 3) := by decide +kernel
theorem dX0_chains_51 : decode cX0_chains 51 = .ok (.goto (-31), 3) := by decide +kernel
theorem dX0_chains_54 : decode cX0_chains 54 = .ok (.iload_n 2, 1) := by decide +kernel
theorem dX0_chains_55 : decode cX0_chains 55 = .ok (.ireturn, 1) := by decide +kernel
abbrev cX0_longestChain : ByteArray := prog_1_method_12_code
def yX0_longestChain : MethodName := ⟨RX0, "longestChain", "(I)I"⟩
theorem dX0_longestChain_0 : decode cX0_longestChain 0 = .ok (.aload_n 0, 1) := by decide +kernel
theorem dX0_longestChain_1 : decode cX0_longestChain 1 = .ok (.iload_n 1, 1) := by decide +kernel
theorem dX0_longestChain_2 : decode cX0_longestChain 2 = .ok (.invokevirtual 46, 3) := by decide +kernel
theorem dX0_longestChain_5 : decode cX0_longestChain 5 = .ok (.ifCond .ne 5, 3) := by decide +kernel
theorem dX0_longestChain_8 : decode cX0_longestChain 8 = .ok (.iconst (-1), 1) := by decide +kernel
theorem dX0_longestChain_9 : decode cX0_longestChain 9 = .ok (.ireturn, 1) := by decide +kernel
theorem dX0_longestChain_10 : decode cX0_longestChain 10 = .ok (.iconst 0, 1) := by decide +kernel
theorem dX0_longestChain_11 : decode cX0_longestChain 11 = .ok (.istore_n 2, 1) := by decide +kernel
theorem dX0_longestChain_12 : decode cX0_longestChain 12 = .ok (.iconst 0, 1) := by decide +kernel
theorem dX0_longestChain_13 : decode cX0_longestChain 13 = .ok (.istore_n 3, 1) := by decide +kernel
theorem dX0_longestChain_14 : decode cX0_longestChain 14 = .ok (.iload_n 3, 1) := by decide +kernel
theorem dX0_longestChain_15 : decode cX0_longestChain 15 = .ok (.aload_n 0, 1) := by decide +kernel
theorem dX0_longestChain_16 : decode cX0_longestChain 16 = .ok (.getfield 42, 3) := by decide +kernel
theorem dX0_longestChain_19 : decode cX0_longestChain 19 = .ok (.if_icmp .ge 48, 3) := by decide +kernel
theorem dX0_longestChain_22 : decode cX0_longestChain 22 = .ok (.iconst 0, 1) := by decide +kernel
theorem dX0_longestChain_23 : decode cX0_longestChain 23 = .ok (.istore 4, 2) := by decide +kernel
theorem dX0_longestChain_25 : decode cX0_longestChain 25 = .ok (.iload_n 1, 1) := by decide +kernel
theorem dX0_longestChain_26 : decode cX0_longestChain 26 = .ok (.iload_n 3, 1) := by decide +kernel
theorem dX0_longestChain_27 : decode cX0_longestChain 27 = .ok (.ishr, 1) := by decide +kernel
theorem dX0_longestChain_28 : decode cX0_longestChain 28 = .ok (.iconst 1, 1) := by decide +kernel
theorem dX0_longestChain_29 : decode cX0_longestChain 29 = .ok (.iand, 1) := by decide +kernel
theorem dX0_longestChain_30 : decode cX0_longestChain 30 = .ok (.ifCond .eq 13, 3) := by decide +kernel
theorem dX0_longestChain_33 : decode cX0_longestChain 33 = .ok (.iconst 1, 1) := by decide +kernel
theorem dX0_longestChain_34 : decode cX0_longestChain 34 = .ok (.aload_n 0, 1) := by decide +kernel
theorem dX0_longestChain_35 : decode cX0_longestChain 35 = .ok (.iload_n 3, 1) := by decide +kernel
theorem dX0_longestChain_36 : decode cX0_longestChain 36 = .ok (.iload_n 1, 1) := by decide +kernel
theorem dX0_longestChain_37 : decode cX0_longestChain 37 = .ok (.invokevirtual 81, 3) := by decide +kernel
theorem dX0_longestChain_40 : decode cX0_longestChain 40 = .ok (.iadd, 1) := by decide +kernel
theorem dX0_longestChain_41 : decode cX0_longestChain 41 = .ok (.istore 4, 2) := by decide +kernel
theorem dX0_longestChain_43 : decode cX0_longestChain 43 = .ok (.aload_n 0, 1) := by decide +kernel
theorem dX0_longestChain_44 : decode cX0_longestChain 44 = .ok (.getfield 35, 3) := by decide +kernel
theorem dX0_longestChain_47 : decode cX0_longestChain 47 = .ok (.iload_n 3, 1) := by decide +kernel
theorem dX0_longestChain_48 : decode cX0_longestChain 48 = .ok (.iload 4, 2) := by decide +kernel
theorem dX0_longestChain_50 : decode cX0_longestChain 50 = .ok (.i2b, 1) := by decide +kernel
theorem dX0_longestChain_51 : decode cX0_longestChain 51 = .ok (.bastore, 1) := by decide +kernel
theorem dX0_longestChain_52 : decode cX0_longestChain 52 = .ok (.iload 4, 2) := by decide +kernel
theorem dX0_longestChain_54 : decode cX0_longestChain 54 = .ok (.iload_n 2, 1) := by decide +kernel
theorem dX0_longestChain_55 : decode cX0_longestChain 55 = .ok (.if_icmp .le 6, 3) := by decide +kernel
theorem dX0_longestChain_58 : decode cX0_longestChain 58 = .ok (.iload 4, 2) := by decide +kernel
theorem dX0_longestChain_60 : decode cX0_longestChain 60 = .ok (.istore_n 2, 1) := by decide +kernel
theorem dX0_longestChain_61 : decode cX0_longestChain 61 = .ok (.iinc 3 1, 3) := by decide +kernel
theorem dX0_longestChain_64 : decode cX0_longestChain 64 = .ok (.goto (-50), 3) := by decide +kernel
theorem dX0_longestChain_67 : decode cX0_longestChain 67 = .ok (.iload_n 2, 1) := by decide +kernel
theorem dX0_longestChain_68 : decode cX0_longestChain 68 = .ok (.ireturn, 1) := by decide +kernel
abbrev cX0_longestUnder : ByteArray := prog_1_method_13_code
def yX0_longestUnder : MethodName := ⟨RX0, "longestUnder", "(II)I"⟩
theorem dX0_longestUnder_0 : decode cX0_longestUnder 0 = .ok (.iconst 0, 1) := by decide +kernel
theorem dX0_longestUnder_1 : decode cX0_longestUnder 1 = .ok (.istore_n 3, 1) := by decide +kernel
theorem dX0_longestUnder_2 : decode cX0_longestUnder 2 = .ok (.iconst 0, 1) := by decide +kernel
theorem dX0_longestUnder_3 : decode cX0_longestUnder 3 = .ok (.istore 4, 2) := by decide +kernel
theorem dX0_longestUnder_5 : decode cX0_longestUnder 5 = .ok (.iload 4, 2) := by decide +kernel
theorem dX0_longestUnder_7 : decode cX0_longestUnder 7 = .ok (.iload_n 1, 1) := by decide +kernel
theorem dX0_longestUnder_8 : decode cX0_longestUnder 8 = .ok (.if_icmp .ge 44, 3) := by decide +kernel
theorem dX0_longestUnder_11 : decode cX0_longestUnder 11 = .ok (.aload_n 0, 1) := by decide +kernel
theorem dX0_longestUnder_12 : decode cX0_longestUnder 12 = .ok (.getfield 7, 3) := by decide +kernel
theorem dX0_longestUnder_15 : decode cX0_longestUnder 15 = .ok (.iload_n 1, 1) := by decide +kernel
theorem dX0_longestUnder_16 : decode cX0_longestUnder 16 = .ok (.iaload, 1) := by decide +kernel
theorem dX0_longestUnder_17 : decode cX0_longestUnder 17 = .ok (.iload_n 2, 1) := by decide +kernel
theorem dX0_longestUnder_18 : decode cX0_longestUnder 18 = .ok (.iand, 1) := by decide +kernel
theorem dX0_longestUnder_19 : decode cX0_longestUnder 19 = .ok (.iconst 1, 1) := by decide +kernel
theorem dX0_longestUnder_20 : decode cX0_longestUnder 20 = .ok (.iload 4, 2) := by decide +kernel
theorem dX0_longestUnder_22 : decode cX0_longestUnder 22 = .ok (.ishl, 1) := by decide +kernel
theorem dX0_longestUnder_23 : decode cX0_longestUnder 23 = .ok (.iand, 1) := by decide +kernel
theorem dX0_longestUnder_24 : decode cX0_longestUnder 24 = .ok (.ifCond .eq 22, 3) := by decide +kernel
theorem dX0_longestUnder_27 : decode cX0_longestUnder 27 = .ok (.aload_n 0, 1) := by decide +kernel
theorem dX0_longestUnder_28 : decode cX0_longestUnder 28 = .ok (.getfield 35, 3) := by decide +kernel
theorem dX0_longestUnder_31 : decode cX0_longestUnder 31 = .ok (.iload 4, 2) := by decide +kernel
theorem dX0_longestUnder_33 : decode cX0_longestUnder 33 = .ok (.baload, 1) := by decide +kernel
theorem dX0_longestUnder_34 : decode cX0_longestUnder 34 = .ok (.iload_n 3, 1) := by decide +kernel
theorem dX0_longestUnder_35 : decode cX0_longestUnder 35 = .ok (.if_icmp .le 11, 3) := by decide +kernel
theorem dX0_longestUnder_38 : decode cX0_longestUnder 38 = .ok (.aload_n 0, 1) := by decide +kernel
theorem dX0_longestUnder_39 : decode cX0_longestUnder 39 = .ok (.getfield 35, 3) := by decide +kernel
theorem dX0_longestUnder_42 : decode cX0_longestUnder 42 = .ok (.iload 4, 2) := by decide +kernel
theorem dX0_longestUnder_44 : decode cX0_longestUnder 44 = .ok (.baload, 1) := by decide +kernel
theorem dX0_longestUnder_45 : decode cX0_longestUnder 45 = .ok (.istore_n 3, 1) := by decide +kernel
theorem dX0_longestUnder_46 : decode cX0_longestUnder 46 = .ok (.iinc 4 1, 3) := by decide +kernel
theorem dX0_longestUnder_49 : decode cX0_longestUnder 49 = .ok (.goto (-44), 3) := by decide +kernel
theorem dX0_longestUnder_52 : decode cX0_longestUnder 52 = .ok (.iload_n 3, 1) := by decide +kernel
theorem dX0_longestUnder_53 : decode cX0_longestUnder 53 = .ok (.ireturn, 1) := by decide +kernel
abbrev cX0_lowest : ByteArray := prog_1_method_14_code
def yX0_lowest : MethodName := ⟨RX0, "lowest", "()I"⟩
theorem dX0_lowest_0 : decode cX0_lowest 0 = .ok (.aload_n 0, 1) := by decide +kernel
theorem dX0_lowest_1 : decode cX0_lowest 1 = .ok (.invokevirtual 84, 3) := by decide +kernel
theorem dX0_lowest_4 : decode cX0_lowest 4 = .ok (.iconst 0, 1) := by decide +kernel
theorem dX0_lowest_5 : decode cX0_lowest 5 = .ok (.istore_n 1, 1) := by decide +kernel
theorem dX0_lowest_6 : decode cX0_lowest 6 = .ok (.iconst 0, 1) := by decide +kernel
theorem dX0_lowest_7 : decode cX0_lowest 7 = .ok (.istore_n 2, 1) := by decide +kernel
theorem dX0_lowest_8 : decode cX0_lowest 8 = .ok (.iload_n 2, 1) := by decide +kernel
theorem dX0_lowest_9 : decode cX0_lowest 9 = .ok (.aload_n 0, 1) := by decide +kernel
theorem dX0_lowest_10 : decode cX0_lowest 10 = .ok (.getfield 42, 3) := by decide +kernel
theorem dX0_lowest_13 : decode cX0_lowest 13 = .ok (.if_icmp .ge 24, 3) := by decide +kernel
theorem dX0_lowest_16 : decode cX0_lowest 16 = .ok (.aload_n 0, 1) := by decide +kernel
theorem dX0_lowest_17 : decode cX0_lowest 17 = .ok (.getfield 26, 3) := by decide +kernel
theorem dX0_lowest_20 : decode cX0_lowest 20 = .ok (.iload_n 2, 1) := by decide +kernel
theorem dX0_lowest_21 : decode cX0_lowest 21 = .ok (.baload, 1) := by decide +kernel
theorem dX0_lowest_22 : decode cX0_lowest 22 = .ok (.ifCond .ge 9, 3) := by decide +kernel
theorem dX0_lowest_25 : decode cX0_lowest 25 = .ok (.iload_n 1, 1) := by decide +kernel
theorem dX0_lowest_26 : decode cX0_lowest 26 = .ok (.iconst 1, 1) := by decide +kernel
theorem dX0_lowest_27 : decode cX0_lowest 27 = .ok (.iload_n 2, 1) := by decide +kernel
theorem dX0_lowest_28 : decode cX0_lowest 28 = .ok (.ishl, 1) := by decide +kernel
theorem dX0_lowest_29 : decode cX0_lowest 29 = .ok (.ior, 1) := by decide +kernel
theorem dX0_lowest_30 : decode cX0_lowest 30 = .ok (.istore_n 1, 1) := by decide +kernel
theorem dX0_lowest_31 : decode cX0_lowest 31 = .ok (.iinc 2 1, 3) := by decide +kernel
theorem dX0_lowest_34 : decode cX0_lowest 34 = .ok (.goto (-26), 3) := by decide +kernel
theorem dX0_lowest_37 : decode cX0_lowest 37 = .ok (.iconst 0, 1) := by decide +kernel
theorem dX0_lowest_38 : decode cX0_lowest 38 = .ok (.istore_n 2, 1) := by decide +kernel
theorem dX0_lowest_39 : decode cX0_lowest 39 = .ok (.iconst 0, 1) := by decide +kernel
theorem dX0_lowest_40 : decode cX0_lowest 40 = .ok (.istore_n 3, 1) := by decide +kernel
theorem dX0_lowest_41 : decode cX0_lowest 41 = .ok (.iload_n 3, 1) := by decide +kernel
theorem dX0_lowest_42 : decode cX0_lowest 42 = .ok (.aload_n 0, 1) := by decide +kernel
theorem dX0_lowest_43 : decode cX0_lowest 43 = .ok (.getfield 42, 3) := by decide +kernel
theorem dX0_lowest_46 : decode cX0_lowest 46 = .ok (.if_icmp .gt 77, 3) := by decide +kernel
theorem dX0_lowest_49 : decode cX0_lowest 49 = .ok (.iconst 0, 1) := by decide +kernel
theorem dX0_lowest_50 : decode cX0_lowest 50 = .ok (.istore 4, 2) := by decide +kernel
theorem dX0_lowest_52 : decode cX0_lowest 52 = .ok (.iload 4, 2) := by decide +kernel
theorem dX0_lowest_54 : decode cX0_lowest 54 = .ok (.aload_n 0, 1) := by decide +kernel
theorem dX0_lowest_55 : decode cX0_lowest 55 = .ok (.getfield 42, 3) := by decide +kernel
theorem dX0_lowest_58 : decode cX0_lowest 58 = .ok (.if_icmp .ge 59, 3) := by decide +kernel
theorem dX0_lowest_61 : decode cX0_lowest 61 = .ok (.iload_n 1, 1) := by decide +kernel
theorem dX0_lowest_62 : decode cX0_lowest 62 = .ok (.iload 4, 2) := by decide +kernel
theorem dX0_lowest_64 : decode cX0_lowest 64 = .ok (.ishr, 1) := by decide +kernel
theorem dX0_lowest_65 : decode cX0_lowest 65 = .ok (.iconst 1, 1) := by decide +kernel
theorem dX0_lowest_66 : decode cX0_lowest 66 = .ok (.iand, 1) := by decide +kernel
theorem dX0_lowest_67 : decode cX0_lowest 67 = .ok (.ifCond .eq 13, 3) := by decide +kernel
theorem dX0_lowest_70 : decode cX0_lowest 70 = .ok (.iload_n 2, 1) := by decide +kernel
theorem dX0_lowest_71 : decode cX0_lowest 71 = .ok (.aload_n 0, 1) := by decide +kernel
theorem dX0_lowest_72 : decode cX0_lowest 72 = .ok (.getfield 7, 3) := by decide +kernel
theorem dX0_lowest_75 : decode cX0_lowest 75 = .ok (.iload 4, 2) := by decide +kernel
theorem dX0_lowest_77 : decode cX0_lowest 77 = .ok (.iaload, 1) := by decide +kernel
theorem dX0_lowest_78 : decode cX0_lowest 78 = .ok (.ior, 1) := by decide +kernel
theorem dX0_lowest_79 : decode cX0_lowest 79 = .ok (.istore_n 2, 1) := by decide +kernel
theorem dX0_lowest_80 : decode cX0_lowest 80 = .ok (.iload_n 2, 1) := by decide +kernel
theorem dX0_lowest_81 : decode cX0_lowest 81 = .ok (.iload 4, 2) := by decide +kernel
theorem dX0_lowest_83 : decode cX0_lowest 83 = .ok (.ishr, 1) := by decide +kernel
theorem dX0_lowest_84 : decode cX0_lowest 84 = .ok (.iconst 1, 1) := by decide +kernel
theorem dX0_lowest_85 : decode cX0_lowest 85 = .ok (.iand, 1) := by decide +kernel
theorem dX0_lowest_86 : decode cX0_lowest 86 = .ok (.ifCond .eq 25, 3) := by decide +kernel
theorem dX0_lowest_89 : decode cX0_lowest 89 = .ok (.aload_n 0, 1) := by decide +kernel
theorem dX0_lowest_90 : decode cX0_lowest 90 = .ok (.getfield 23, 3) := by decide +kernel
theorem dX0_lowest_93 : decode cX0_lowest 93 = .ok (.iload 4, 2) := by decide +kernel
theorem dX0_lowest_95 : decode cX0_lowest 95 = .ok (.baload, 1) := by decide +kernel
theorem dX0_lowest_96 : decode cX0_lowest 96 = .ok (.ifCond .lt 15, 3) := by decide +kernel
theorem dX0_lowest_99 : decode cX0_lowest 99 = .ok (.iload_n 1, 1) := by decide +kernel
theorem dX0_lowest_100 : decode cX0_lowest 100 = .ok (.iconst 1, 1) := by decide +kernel
theorem dX0_lowest_101 : decode cX0_lowest 101 = .ok (.aload_n 0, 1) := by decide +kernel
theorem dX0_lowest_102 : decode cX0_lowest 102 = .ok (.getfield 23, 3) := by decide +kernel
theorem dX0_lowest_105 : decode cX0_lowest 105 = .ok (.iload 4, 2) := by decide +kernel
theorem dX0_lowest_107 : decode cX0_lowest 107 = .ok (.baload, 1) := by decide +kernel
theorem dX0_lowest_108 : decode cX0_lowest 108 = .ok (.ishl, 1) := by decide +kernel
theorem dX0_lowest_109 : decode cX0_lowest 109 = .ok (.ior, 1) := by decide +kernel
theorem dX0_lowest_110 : decode cX0_lowest 110 = .ok (.istore_n 1, 1) := by decide +kernel
theorem dX0_lowest_111 : decode cX0_lowest 111 = .ok (.iinc 4 1, 3) := by decide +kernel
theorem dX0_lowest_114 : decode cX0_lowest 114 = .ok (.goto (-62), 3) := by decide +kernel
theorem dX0_lowest_117 : decode cX0_lowest 117 = .ok (.iinc 3 1, 3) := by decide +kernel
theorem dX0_lowest_120 : decode cX0_lowest 120 = .ok (.goto (-79), 3) := by decide +kernel
theorem dX0_lowest_123 : decode cX0_lowest 123 = .ok (.iload_n 1, 1) := by decide +kernel
theorem dX0_lowest_124 : decode cX0_lowest 124 = .ok (.iload_n 2, 1) := by decide +kernel
theorem dX0_lowest_125 : decode cX0_lowest 125 = .ok (.iconst (-1), 1) := by decide +kernel
theorem dX0_lowest_126 : decode cX0_lowest 126 = .ok (.ixor, 1) := by decide +kernel
theorem dX0_lowest_127 : decode cX0_lowest 127 = .ok (.iand, 1) := by decide +kernel
theorem dX0_lowest_128 : decode cX0_lowest 128 = .ok (.ireturn, 1) := by decide +kernel
abbrev cX0_highest : ByteArray := prog_1_method_15_code
def yX0_highest : MethodName := ⟨RX0, "highest", "()I"⟩
theorem dX0_highest_0 : decode cX0_highest 0 = .ok (.aload_n 0, 1) := by decide +kernel
theorem dX0_highest_1 : decode cX0_highest 1 = .ok (.invokevirtual 84, 3) := by decide +kernel
theorem dX0_highest_4 : decode cX0_highest 4 = .ok (.iconst 0, 1) := by decide +kernel
theorem dX0_highest_5 : decode cX0_highest 5 = .ok (.istore_n 1, 1) := by decide +kernel
theorem dX0_highest_6 : decode cX0_highest 6 = .ok (.iconst 0, 1) := by decide +kernel
theorem dX0_highest_7 : decode cX0_highest 7 = .ok (.istore_n 2, 1) := by decide +kernel
theorem dX0_highest_8 : decode cX0_highest 8 = .ok (.iload_n 2, 1) := by decide +kernel
theorem dX0_highest_9 : decode cX0_highest 9 = .ok (.aload_n 0, 1) := by decide +kernel
theorem dX0_highest_10 : decode cX0_highest 10 = .ok (.getfield 42, 3) := by decide +kernel
theorem dX0_highest_13 : decode cX0_highest 13 = .ok (.if_icmp .ge 24, 3) := by decide +kernel
theorem dX0_highest_16 : decode cX0_highest 16 = .ok (.aload_n 0, 1) := by decide +kernel
theorem dX0_highest_17 : decode cX0_highest 17 = .ok (.getfield 23, 3) := by decide +kernel
theorem dX0_highest_20 : decode cX0_highest 20 = .ok (.iload_n 2, 1) := by decide +kernel
theorem dX0_highest_21 : decode cX0_highest 21 = .ok (.baload, 1) := by decide +kernel
theorem dX0_highest_22 : decode cX0_highest 22 = .ok (.ifCond .ge 9, 3) := by decide +kernel
theorem dX0_highest_25 : decode cX0_highest 25 = .ok (.iload_n 1, 1) := by decide +kernel
theorem dX0_highest_26 : decode cX0_highest 26 = .ok (.iconst 1, 1) := by decide +kernel
theorem dX0_highest_27 : decode cX0_highest 27 = .ok (.iload_n 2, 1) := by decide +kernel
theorem dX0_highest_28 : decode cX0_highest 28 = .ok (.ishl, 1) := by decide +kernel
theorem dX0_highest_29 : decode cX0_highest 29 = .ok (.ior, 1) := by decide +kernel
theorem dX0_highest_30 : decode cX0_highest 30 = .ok (.istore_n 1, 1) := by decide +kernel
theorem dX0_highest_31 : decode cX0_highest 31 = .ok (.iinc 2 1, 3) := by decide +kernel
theorem dX0_highest_34 : decode cX0_highest 34 = .ok (.goto (-26), 3) := by decide +kernel
theorem dX0_highest_37 : decode cX0_highest 37 = .ok (.iconst 0, 1) := by decide +kernel
theorem dX0_highest_38 : decode cX0_highest 38 = .ok (.istore_n 2, 1) := by decide +kernel
theorem dX0_highest_39 : decode cX0_highest 39 = .ok (.iconst 0, 1) := by decide +kernel
theorem dX0_highest_40 : decode cX0_highest 40 = .ok (.istore_n 3, 1) := by decide +kernel
theorem dX0_highest_41 : decode cX0_highest 41 = .ok (.iload_n 3, 1) := by decide +kernel
theorem dX0_highest_42 : decode cX0_highest 42 = .ok (.aload_n 0, 1) := by decide +kernel
theorem dX0_highest_43 : decode cX0_highest 43 = .ok (.getfield 42, 3) := by decide +kernel
theorem dX0_highest_46 : decode cX0_highest 46 = .ok (.if_icmp .gt 77, 3) := by decide +kernel
theorem dX0_highest_49 : decode cX0_highest 49 = .ok (.iconst 0, 1) := by decide +kernel
theorem dX0_highest_50 : decode cX0_highest 50 = .ok (.istore 4, 2) := by decide +kernel
theorem dX0_highest_52 : decode cX0_highest 52 = .ok (.iload 4, 2) := by decide +kernel
theorem dX0_highest_54 : decode cX0_highest 54 = .ok (.aload_n 0, 1) := by decide +kernel
theorem dX0_highest_55 : decode cX0_highest 55 = .ok (.getfield 42, 3) := by decide +kernel
theorem dX0_highest_58 : decode cX0_highest 58 = .ok (.if_icmp .ge 59, 3) := by decide +kernel
theorem dX0_highest_61 : decode cX0_highest 61 = .ok (.iload_n 1, 1) := by decide +kernel
theorem dX0_highest_62 : decode cX0_highest 62 = .ok (.iload 4, 2) := by decide +kernel
theorem dX0_highest_64 : decode cX0_highest 64 = .ok (.ishr, 1) := by decide +kernel
theorem dX0_highest_65 : decode cX0_highest 65 = .ok (.iconst 1, 1) := by decide +kernel
theorem dX0_highest_66 : decode cX0_highest 66 = .ok (.iand, 1) := by decide +kernel
theorem dX0_highest_67 : decode cX0_highest 67 = .ok (.ifCond .eq 13, 3) := by decide +kernel
theorem dX0_highest_70 : decode cX0_highest 70 = .ok (.iload_n 2, 1) := by decide +kernel
theorem dX0_highest_71 : decode cX0_highest 71 = .ok (.aload_n 0, 1) := by decide +kernel
theorem dX0_highest_72 : decode cX0_highest 72 = .ok (.getfield 13, 3) := by decide +kernel
theorem dX0_highest_75 : decode cX0_highest 75 = .ok (.iload 4, 2) := by decide +kernel
theorem dX0_highest_77 : decode cX0_highest 77 = .ok (.iaload, 1) := by decide +kernel
theorem dX0_highest_78 : decode cX0_highest 78 = .ok (.ior, 1) := by decide +kernel
theorem dX0_highest_79 : decode cX0_highest 79 = .ok (.istore_n 2, 1) := by decide +kernel
theorem dX0_highest_80 : decode cX0_highest 80 = .ok (.iload_n 2, 1) := by decide +kernel
theorem dX0_highest_81 : decode cX0_highest 81 = .ok (.iload 4, 2) := by decide +kernel
theorem dX0_highest_83 : decode cX0_highest 83 = .ok (.ishr, 1) := by decide +kernel
theorem dX0_highest_84 : decode cX0_highest 84 = .ok (.iconst 1, 1) := by decide +kernel
theorem dX0_highest_85 : decode cX0_highest 85 = .ok (.iand, 1) := by decide +kernel
theorem dX0_highest_86 : decode cX0_highest 86 = .ok (.ifCond .eq 25, 3) := by decide +kernel
theorem dX0_highest_89 : decode cX0_highest 89 = .ok (.aload_n 0, 1) := by decide +kernel
theorem dX0_highest_90 : decode cX0_highest 90 = .ok (.getfield 26, 3) := by decide +kernel
theorem dX0_highest_93 : decode cX0_highest 93 = .ok (.iload 4, 2) := by decide +kernel
theorem dX0_highest_95 : decode cX0_highest 95 = .ok (.baload, 1) := by decide +kernel
theorem dX0_highest_96 : decode cX0_highest 96 = .ok (.ifCond .lt 15, 3) := by decide +kernel
theorem dX0_highest_99 : decode cX0_highest 99 = .ok (.iload_n 1, 1) := by decide +kernel
theorem dX0_highest_100 : decode cX0_highest 100 = .ok (.iconst 1, 1) := by decide +kernel
theorem dX0_highest_101 : decode cX0_highest 101 = .ok (.aload_n 0, 1) := by decide +kernel
theorem dX0_highest_102 : decode cX0_highest 102 = .ok (.getfield 26, 3) := by decide +kernel
theorem dX0_highest_105 : decode cX0_highest 105 = .ok (.iload 4, 2) := by decide +kernel
theorem dX0_highest_107 : decode cX0_highest 107 = .ok (.baload, 1) := by decide +kernel
theorem dX0_highest_108 : decode cX0_highest 108 = .ok (.ishl, 1) := by decide +kernel
theorem dX0_highest_109 : decode cX0_highest 109 = .ok (.ior, 1) := by decide +kernel
theorem dX0_highest_110 : decode cX0_highest 110 = .ok (.istore_n 1, 1) := by decide +kernel
theorem dX0_highest_111 : decode cX0_highest 111 = .ok (.iinc 4 1, 3) := by decide +kernel
theorem dX0_highest_114 : decode cX0_highest 114 = .ok (.goto (-62), 3) := by decide +kernel
theorem dX0_highest_117 : decode cX0_highest 117 = .ok (.iinc 3 1, 3) := by decide +kernel
theorem dX0_highest_120 : decode cX0_highest 120 = .ok (.goto (-79), 3) := by decide +kernel
theorem dX0_highest_123 : decode cX0_highest 123 = .ok (.iload_n 1, 1) := by decide +kernel
theorem dX0_highest_124 : decode cX0_highest 124 = .ok (.iload_n 2, 1) := by decide +kernel
theorem dX0_highest_125 : decode cX0_highest 125 = .ok (.iconst (-1), 1) := by decide +kernel
theorem dX0_highest_126 : decode cX0_highest 126 = .ok (.ixor, 1) := by decide +kernel
theorem dX0_highest_127 : decode cX0_highest 127 = .ok (.iand, 1) := by decide +kernel
theorem dX0_highest_128 : decode cX0_highest 128 = .ok (.ireturn, 1) := by decide +kernel
abbrev cX0_isLargest : ByteArray := prog_1_method_16_code
def yX0_isLargest : MethodName := ⟨RX0, "isLargest", "(I)Z"⟩
theorem dX0_isLargest_0 : decode cX0_isLargest 0 = .ok (.aload_n 0, 1) := by decide +kernel
theorem dX0_isLargest_1 : decode cX0_isLargest 1 = .ok (.iload_n 1, 1) := by decide +kernel
theorem dX0_isLargest_2 : decode cX0_isLargest 2 = .ok (.invokevirtual 46, 3) := by decide +kernel
theorem dX0_isLargest_5 : decode cX0_isLargest 5 = .ok (.ifCond .ne 5, 3) := by decide +kernel
theorem dX0_isLargest_8 : decode cX0_isLargest 8 = .ok (.iconst 0, 1) := by decide +kernel
theorem dX0_isLargest_9 : decode cX0_isLargest 9 = .ok (.ireturn, 1) := by decide +kernel
theorem dX0_isLargest_10 : decode cX0_isLargest 10 = .ok (.iconst 0, 1) := by decide +kernel
theorem dX0_isLargest_11 : decode cX0_isLargest 11 = .ok (.istore_n 2, 1) := by decide +kernel
theorem dX0_isLargest_12 : decode cX0_isLargest 12 = .ok (.iload_n 2, 1) := by decide +kernel
theorem dX0_isLargest_13 : decode cX0_isLargest 13 = .ok (.aload_n 0, 1) := by decide +kernel
theorem dX0_isLargest_14 : decode cX0_isLargest 14 = .ok (.getfield 42, 3) := by decide +kernel
theorem dX0_isLargest_17 : decode cX0_isLargest 17 = .ok (.if_icmp .ge 30, 3) := by decide +kernel
theorem dX0_isLargest_20 : decode cX0_isLargest 20 = .ok (.iload_n 1, 1) := by decide +kernel
theorem dX0_isLargest_21 : decode cX0_isLargest 21 = .ok (.iload_n 2, 1) := by decide +kernel
theorem dX0_isLargest_22 : decode cX0_isLargest 22 = .ok (.ishr, 1) := by decide +kernel
theorem dX0_isLargest_23 : decode cX0_isLargest 23 = .ok (.iconst 1, 1) := by decide +kernel
theorem dX0_isLargest_24 : decode cX0_isLargest 24 = .ok (.iand, 1) := by decide +kernel
theorem dX0_isLargest_25 : decode cX0_isLargest 25 = .ok (.ifCond .eq 16, 3) := by decide +kernel
theorem dX0_isLargest_28 : decode cX0_isLargest 28 = .ok (.aload_n 0, 1) := by decide +kernel
theorem dX0_isLargest_29 : decode cX0_isLargest 29 = .ok (.getfield 7, 3) := by decide +kernel
theorem dX0_isLargest_32 : decode cX0_isLargest 32 = .ok (.iload_n 2, 1) := by decide +kernel
theorem dX0_isLargest_33 : decode cX0_isLargest 33 = .ok (.iaload, 1) := by decide +kernel
theorem dX0_isLargest_34 : decode cX0_isLargest 34 = .ok (.iload_n 1, 1) := by decide +kernel
theorem dX0_isLargest_35 : decode cX0_isLargest 35 = .ok (.iand, 1) := by decide +kernel
theorem dX0_isLargest_36 : decode cX0_isLargest 36 = .ok (.ifCond .eq 5, 3) := by decide +kernel
theorem dX0_isLargest_39 : decode cX0_isLargest 39 = .ok (.iconst 0, 1) := by decide +kernel
theorem dX0_isLargest_40 : decode cX0_isLargest 40 = .ok (.ireturn, 1) := by decide +kernel
theorem dX0_isLargest_41 : decode cX0_isLargest 41 = .ok (.iinc 2 1, 3) := by decide +kernel
theorem dX0_isLargest_44 : decode cX0_isLargest 44 = .ok (.goto (-32), 3) := by decide +kernel
theorem dX0_isLargest_47 : decode cX0_isLargest 47 = .ok (.aload_n 0, 1) := by decide +kernel
theorem dX0_isLargest_48 : decode cX0_isLargest 48 = .ok (.iload_n 1, 1) := by decide +kernel
theorem dX0_isLargest_49 : decode cX0_isLargest 49 = .ok (.invokevirtual 74, 3) := by decide +kernel
theorem dX0_isLargest_52 : decode cX0_isLargest 52 = .ok (.aload_n 0, 1) := by decide +kernel
theorem dX0_isLargest_53 : decode cX0_isLargest 53 = .ok (.iconst 1, 1) := by decide +kernel
theorem dX0_isLargest_54 : decode cX0_isLargest 54 = .ok (.aload_n 0, 1) := by decide +kernel
theorem dX0_isLargest_55 : decode cX0_isLargest 55 = .ok (.getfield 42, 3) := by decide +kernel
theorem dX0_isLargest_58 : decode cX0_isLargest 58 = .ok (.ishl, 1) := by decide +kernel
theorem dX0_isLargest_59 : decode cX0_isLargest 59 = .ok (.iconst 1, 1) := by decide +kernel
theorem dX0_isLargest_60 : decode cX0_isLargest 60 = .ok (.isub, 1) := by decide +kernel
theorem dX0_isLargest_61 : decode cX0_isLargest 61 = .ok (.invokevirtual 87, 3) := by decide +kernel
theorem dX0_isLargest_64 : decode cX0_isLargest 64 = .ok (.if_icmp .ne 7, 3) := by decide +kernel
theorem dX0_isLargest_67 : decode cX0_isLargest 67 = .ok (.iconst 1, 1) := by decide +kernel
theorem dX0_isLargest_68 : decode cX0_isLargest 68 = .ok (.goto 4, 3) := by decide +kernel
theorem dX0_isLargest_71 : decode cX0_isLargest 71 = .ok (.iconst 0, 1) := by decide +kernel
theorem dX0_isLargest_72 : decode cX0_isLargest 72 = .ok (.ireturn, 1) := by decide +kernel
abbrev cX0_inSomeLargest : ByteArray := prog_1_method_17_code
def yX0_inSomeLargest : MethodName := ⟨RX0, "inSomeLargest", "(I)Z"⟩
theorem dX0_inSomeLargest_0 : decode cX0_inSomeLargest 0 = .ok (.aload_n 0, 1) := by decide +kernel
theorem dX0_inSomeLargest_1 : decode cX0_inSomeLargest 1 = .ok (.iload_n 1, 1) := by decide +kernel
theorem dX0_inSomeLargest_2 : decode cX0_inSomeLargest 2 = .ok (.invokevirtual 71, 3) := by decide +kernel
theorem dX0_inSomeLargest_5 : decode cX0_inSomeLargest 5 = .ok (.ifCond .ne 5, 3) := by decide +kernel
theorem dX0_inSomeLargest_8 : decode cX0_inSomeLargest 8 = .ok (.iconst 0, 1) := by decide +kernel
theorem dX0_inSomeLargest_9 : decode cX0_inSomeLargest 9 = .ok (.ireturn, 1) := by decide +kernel
theorem dX0_inSomeLargest_10 : decode cX0_inSomeLargest 10 = .ok (.iconst 1, 1) := by decide +kernel
theorem dX0_inSomeLargest_11 : decode cX0_inSomeLargest 11 = .ok (.aload_n 0, 1) := by decide +kernel
theorem dX0_inSomeLargest_12 : decode cX0_inSomeLargest 12 = .ok (.getfield 42, 3) := by decide +kernel
theorem dX0_inSomeLargest_15 : decode cX0_inSomeLargest 15 = .ok (.ishl, 1) := by decide +kernel
theorem dX0_inSomeLargest_16 : decode cX0_inSomeLargest 16 = .ok (.iconst 1, 1) := by decide +kernel
theorem dX0_inSomeLargest_17 : decode cX0_inSomeLargest 17 = .ok (.isub, 1) := by decide +kernel
theorem dX0_inSomeLargest_18 : decode cX0_inSomeLargest 18 = .ok (.istore_n 2, 1) := by decide +kernel
theorem dX0_inSomeLargest_19 : decode cX0_inSomeLargest 19 = .ok (.iload_n 2, 1) := by decide +kernel
theorem dX0_inSomeLargest_20 : decode cX0_inSomeLargest 20 = .ok (.aload_n 0, 1) := by decide +kernel
theorem dX0_inSomeLargest_21 : decode cX0_inSomeLargest 21 = .ok (.getfield 7, 3) := by decide +kernel
theorem dX0_inSomeLargest_24 : decode cX0_inSomeLargest 24 = .ok (.iload_n 1, 1) := by decide +kernel
theorem dX0_inSomeLargest_25 : decode cX0_inSomeLargest 25 = .ok (.iaload, 1) := by decide +kernel
theorem dX0_inSomeLargest_26 : decode cX0_inSomeLargest 26 = .ok (.aload_n 0, 1) := by decide +kernel
theorem dX0_inSomeLargest_27 : decode cX0_inSomeLargest 27 = .ok (.getfield 13, 3) := by decide +kernel
theorem dX0_inSomeLargest_30 : decode cX0_inSomeLargest 30 = .ok (.iload_n 1, 1) := by decide +kernel
theorem dX0_inSomeLargest_31 : decode cX0_inSomeLargest 31 = .ok (.iaload, 1) := by decide +kernel
theorem dX0_inSomeLargest_32 : decode cX0_inSomeLargest 32 = .ok (.ior, 1) := by decide +kernel
theorem dX0_inSomeLargest_33 : decode cX0_inSomeLargest 33 = .ok (.iconst 1, 1) := by decide +kernel
theorem dX0_inSomeLargest_34 : decode cX0_inSomeLargest 34 = .ok (.iload_n 1, 1) := by decide +kernel
theorem dX0_inSomeLargest_35 : decode cX0_inSomeLargest 35 = .ok (.ishl, 1) := by decide +kernel
theorem dX0_inSomeLargest_36 : decode cX0_inSomeLargest 36 = .ok (.ior, 1) := by decide +kernel
theorem dX0_inSomeLargest_37 : decode cX0_inSomeLargest 37 = .ok (.iconst (-1), 1) := by decide +kernel
theorem dX0_inSomeLargest_38 : decode cX0_inSomeLargest 38 = .ok (.ixor, 1) := by decide +kernel
theorem dX0_inSomeLargest_39 : decode cX0_inSomeLargest 39 = .ok (.iand, 1) := by decide +kernel
theorem dX0_inSomeLargest_40 : decode cX0_inSomeLargest 40 = .ok (.istore_n 3, 1) := by decide +kernel
theorem dX0_inSomeLargest_41 : decode cX0_inSomeLargest 41 = .ok (.aload_n 0, 1) := by decide +kernel
theorem dX0_inSomeLargest_42 : decode cX0_inSomeLargest 42 = .ok (.iload_n 3, 1) := by decide +kernel
theorem dX0_inSomeLargest_43 : decode cX0_inSomeLargest 43 = .ok (.invokevirtual 87, 3) := by decide +kernel
theorem dX0_inSomeLargest_46 : decode cX0_inSomeLargest 46 = .ok (.istore 4, 2) := by decide +kernel
theorem dX0_inSomeLargest_48 : decode cX0_inSomeLargest 48 = .ok (.iload 4, 2) := by decide +kernel
theorem dX0_inSomeLargest_50 : decode cX0_inSomeLargest 50 = .ok (.iconst 1, 1) := by decide +kernel
theorem dX0_inSomeLargest_51 : decode cX0_inSomeLargest 51 = .ok (.iadd, 1) := by decide +kernel
theorem dX0_inSomeLargest_52 : decode cX0_inSomeLargest 52 = .ok (.aload_n 0, 1) := by decide +kernel
theorem dX0_inSomeLargest_53 : decode cX0_inSomeLargest 53 = .ok (.iload_n 2, 1) := by decide +kernel
theorem dX0_inSomeLargest_54 : decode cX0_inSomeLargest 54 = .ok (.invokevirtual 87, 3) := by decide +kernel
theorem dX0_inSomeLargest_57 : decode cX0_inSomeLargest 57 = .ok (.if_icmp .ne 7, 3) := by decide +kernel
theorem dX0_inSomeLargest_60 : decode cX0_inSomeLargest 60 = .ok (.iconst 1, 1) := by decide +kernel
theorem dX0_inSomeLargest_61 : decode cX0_inSomeLargest 61 = .ok (.goto 4, 3) := by decide +kernel
theorem dX0_inSomeLargest_64 : decode cX0_inSomeLargest 64 = .ok (.iconst 0, 1) := by decide +kernel
theorem dX0_inSomeLargest_65 : decode cX0_inSomeLargest 65 = .ok (.ireturn, 1) := by decide +kernel
end
section
set_option maxRecDepth 100000
/-! ChainCoverModel -/
def RX1 : String := "ChainCoverModel"
def TX1 : u_T := fun k => match k with
  | 0 => ("ChainCoverModel", "n", "I", false)
  | 1 => ("ChainCoverModel", "under", "[I", false)
  | _ => ("ChainCoverModel", "least", "[I", false)
def tyX1 : Nat → FieldType := fun k => match k with
  | 0 => .int
  | 1 => .array .int
  | _ => .array .int
abbrev wsX10 : List Cond := u_ws RX1 TX1 3
theorem nmX1 : ∀ a, a < 3 → ∀ b, b < 3 → a ≠ b → (TX1 a).2.1 ≠ (TX1 b).2.1 := by decide +kernel
theorem tyX1_ok : ∀ k, k < 3 → parseFieldDescriptor (TX1 k).2.2.1 = some (tyX1 k) := by decide +kernel
abbrev cX1_init : ByteArray := prog_3_method_1_code
def yX1_init : MethodName := ⟨RX1, "<init>", "()V"⟩
theorem dX1_init_0 : decode cX1_init 0 = .ok (.aload_n 0, 1) := by decide +kernel
theorem dX1_init_1 : decode cX1_init 1 = .ok (.invokespecial 1, 3) := by decide +kernel
theorem dX1_init_4 : decode cX1_init 4 = .ok (.aload_n 0, 1) := by decide +kernel
theorem dX1_init_5 : decode cX1_init 5 = .ok (.iconst 0, 1) := by decide +kernel
theorem dX1_init_6 : decode cX1_init 6 = .ok (.putfield 7, 3) := by decide +kernel
theorem dX1_init_9 : decode cX1_init 9 = .ok (.aload_n 0, 1) := by decide +kernel
theorem dX1_init_10 : decode cX1_init 10 = .ok (.bipush 10, 2) := by decide +kernel
theorem dX1_init_12 : decode cX1_init 12 = .ok (.newarray .int, 2) := by decide +kernel
theorem dX1_init_14 : decode cX1_init 14 = .ok (.putfield 13, 3) := by decide +kernel
theorem dX1_init_17 : decode cX1_init 17 = .ok (.aload_n 0, 1) := by decide +kernel
theorem dX1_init_18 : decode cX1_init 18 = .ok (.sipush 1024, 3) := by decide +kernel
theorem dX1_init_21 : decode cX1_init 21 = .ok (.newarray .int, 2) := by decide +kernel
theorem dX1_init_23 : decode cX1_init 23 = .ok (.putfield 17, 3) := by decide +kernel
theorem dX1_init_26 : decode cX1_init 26 = .ok (.return_, 1) := by decide +kernel
abbrev cX1_add : ByteArray := prog_3_method_5_code
def yX1_add : MethodName := ⟨RX1, "add", "(I)I"⟩
theorem dX1_add_0 : decode cX1_add 0 = .ok (.aload_n 0, 1) := by decide +kernel
theorem dX1_add_1 : decode cX1_add 1 = .ok (.getfield 7, 3) := by decide +kernel
theorem dX1_add_4 : decode cX1_add 4 = .ok (.bipush 10, 2) := by decide +kernel
theorem dX1_add_6 : decode cX1_add 6 = .ok (.if_icmp .ne 6, 3) := by decide +kernel
theorem dX1_add_9 : decode cX1_add 9 = .ok (.bipush (-2), 2) := by decide +kernel
theorem dX1_add_11 : decode cX1_add 11 = .ok (.ireturn, 1) := by decide +kernel
theorem dX1_add_12 : decode cX1_add 12 = .ok (.aload_n 0, 1) := by decide +kernel
theorem dX1_add_13 : decode cX1_add 13 = .ok (.iload_n 1, 1) := by decide +kernel
theorem dX1_add_14 : decode cX1_add 14 = .ok (.invokevirtual 24, 3) := by decide +kernel
theorem dX1_add_17 : decode cX1_add 17 = .ok (.ifCond .ne 5, 3) := by decide +kernel
theorem dX1_add_20 : decode cX1_add 20 = .ok (.iconst (-1), 1) := by decide +kernel
theorem dX1_add_21 : decode cX1_add 21 = .ok (.ireturn, 1) := by decide +kernel
theorem dX1_add_22 : decode cX1_add 22 = .ok (.iload_n 1, 1) := by decide +kernel
theorem dX1_add_23 : decode cX1_add 23 = .ok (.istore_n 2, 1) := by decide +kernel
theorem dX1_add_24 : decode cX1_add 24 = .ok (.iconst 0, 1) := by decide +kernel
theorem dX1_add_25 : decode cX1_add 25 = .ok (.istore_n 3, 1) := by decide +kernel
theorem dX1_add_26 : decode cX1_add 26 = .ok (.iload_n 3, 1) := by decide +kernel
theorem dX1_add_27 : decode cX1_add 27 = .ok (.aload_n 0, 1) := by decide +kernel
theorem dX1_add_28 : decode cX1_add 28 = .ok (.getfield 7, 3) := by decide +kernel
theorem dX1_add_31 : decode cX1_add 31 = .ok (.if_icmp .ge 27, 3) := by decide +kernel
theorem dX1_add_34 : decode cX1_add 34 = .ok (.aload_n 0, 1) := by decide +kernel
theorem dX1_add_35 : decode cX1_add 35 = .ok (.iload_n 1, 1) := by decide +kernel
theorem dX1_add_36 : decode cX1_add 36 = .ok (.iload_n 3, 1) := by decide +kernel
theorem dX1_add_37 : decode cX1_add 37 = .ok (.invokevirtual 20, 3) := by decide +kernel
theorem dX1_add_40 : decode cX1_add 40 = .ok (.ifCond .eq 12, 3) := by decide +kernel
theorem dX1_add_43 : decode cX1_add 43 = .ok (.iload_n 2, 1) := by decide +kernel
theorem dX1_add_44 : decode cX1_add 44 = .ok (.aload_n 0, 1) := by decide +kernel
theorem dX1_add_45 : decode cX1_add 45 = .ok (.getfield 13, 3) := by decide +kernel
theorem dX1_add_48 : decode cX1_add 48 = .ok (.iload_n 3, 1) := by decide +kernel
theorem dX1_add_49 : decode cX1_add 49 = .ok (.iaload, 1) := by decide +kernel
theorem dX1_add_50 : decode cX1_add 50 = .ok (.ior, 1) := by decide +kernel
theorem dX1_add_51 : decode cX1_add 51 = .ok (.istore_n 2, 1) := by decide +kernel
theorem dX1_add_52 : decode cX1_add 52 = .ok (.iinc 3 1, 3) := by decide +kernel
theorem dX1_add_55 : decode cX1_add 55 = .ok (.goto (-29), 3) := by decide +kernel
theorem dX1_add_58 : decode cX1_add 58 = .ok (.aload_n 0, 1) := by decide +kernel
theorem dX1_add_59 : decode cX1_add 59 = .ok (.getfield 13, 3) := by decide +kernel
theorem dX1_add_62 : decode cX1_add 62 = .ok (.aload_n 0, 1) := by decide +kernel
theorem dX1_add_63 : decode cX1_add 63 = .ok (.getfield 7, 3) := by decide +kernel
theorem dX1_add_66 : decode cX1_add 66 = .ok (.iload_n 2, 1) := by decide +kernel
theorem dX1_add_67 : decode cX1_add 67 = .ok (.iastore, 1) := by decide +kernel
theorem dX1_add_68 : decode cX1_add 68 = .ok (.aload_n 0, 1) := by decide +kernel
theorem dX1_add_69 : decode cX1_add 69 = .ok (.dup, 1) := by decide +kernel
theorem dX1_add_70 : decode cX1_add 70 = .ok (.getfield 7, 3) := by decide +kernel
theorem dX1_add_73 : decode cX1_add 73 = .ok (.iconst 1, 1) := by decide +kernel
theorem dX1_add_74 : decode cX1_add 74 = .ok (.iadd, 1) := by decide +kernel
theorem dX1_add_75 : decode cX1_add 75 = .ok (.putfield 7, 3) := by decide +kernel
theorem dX1_add_78 : decode cX1_add 78 = .ok (.aload_n 0, 1) := by decide +kernel
theorem dX1_add_79 : decode cX1_add 79 = .ok (.getfield 7, 3) := by decide +kernel
theorem dX1_add_82 : decode cX1_add 82 = .ok (.ireturn, 1) := by decide +kernel
abbrev cX1_isSet : ByteArray := prog_3_method_3_code
def yX1_isSet : MethodName := ⟨RX1, "isSet", "(I)Z"⟩
theorem dX1_isSet_0 : decode cX1_isSet 0 = .ok (.iload_n 1, 1) := by decide +kernel
theorem dX1_isSet_1 : decode cX1_isSet 1 = .ok (.ifCond .lt 17, 3) := by decide +kernel
theorem dX1_isSet_4 : decode cX1_isSet 4 = .ok (.iload_n 1, 1) := by decide +kernel
theorem dX1_isSet_5 : decode cX1_isSet 5 = .ok (.iconst 1, 1) := by decide +kernel
theorem dX1_isSet_6 : decode cX1_isSet 6 = .ok (.aload_n 0, 1) := by decide +kernel
theorem dX1_isSet_7 : decode cX1_isSet 7 = .ok (.getfield 7, 3) := by decide +kernel
theorem dX1_isSet_10 : decode cX1_isSet 10 = .ok (.ishl, 1) := by decide +kernel
theorem dX1_isSet_11 : decode cX1_isSet 11 = .ok (.if_icmp .ge 7, 3) := by decide +kernel
theorem dX1_isSet_14 : decode cX1_isSet 14 = .ok (.iconst 1, 1) := by decide +kernel
theorem dX1_isSet_15 : decode cX1_isSet 15 = .ok (.goto 4, 3) := by decide +kernel
theorem dX1_isSet_18 : decode cX1_isSet 18 = .ok (.iconst 0, 1) := by decide +kernel
theorem dX1_isSet_19 : decode cX1_isSet 19 = .ok (.ireturn, 1) := by decide +kernel
abbrev cX1_in : ByteArray := prog_3_method_2_code
def yX1_in : MethodName := ⟨RX1, "in", "(II)Z"⟩
theorem dX1_in_0 : decode cX1_in 0 = .ok (.iload_n 1, 1) := by decide +kernel
theorem dX1_in_1 : decode cX1_in 1 = .ok (.iload_n 2, 1) := by decide +kernel
theorem dX1_in_2 : decode cX1_in 2 = .ok (.ishr, 1) := by decide +kernel
theorem dX1_in_3 : decode cX1_in 3 = .ok (.iconst 1, 1) := by decide +kernel
theorem dX1_in_4 : decode cX1_in 4 = .ok (.iand, 1) := by decide +kernel
theorem dX1_in_5 : decode cX1_in 5 = .ok (.iconst 1, 1) := by decide +kernel
theorem dX1_in_6 : decode cX1_in 6 = .ok (.if_icmp .ne 7, 3) := by decide +kernel
theorem dX1_in_9 : decode cX1_in 9 = .ok (.iconst 1, 1) := by decide +kernel
theorem dX1_in_10 : decode cX1_in 10 = .ok (.goto 4, 3) := by decide +kernel
theorem dX1_in_13 : decode cX1_in 13 = .ok (.iconst 0, 1) := by decide +kernel
theorem dX1_in_14 : decode cX1_in 14 = .ok (.ireturn, 1) := by decide +kernel
abbrev cX1_removeLast : ByteArray := prog_3_method_6_code
def yX1_removeLast : MethodName := ⟨RX1, "removeLast", "()I"⟩
theorem dX1_removeLast_0 : decode cX1_removeLast 0 = .ok (.aload_n 0, 1) := by decide +kernel
theorem dX1_removeLast_1 : decode cX1_removeLast 1 = .ok (.getfield 7, 3) := by decide +kernel
theorem dX1_removeLast_4 : decode cX1_removeLast 4 = .ok (.ifCond .ne 5, 3) := by decide +kernel
theorem dX1_removeLast_7 : decode cX1_removeLast 7 = .ok (.iconst (-1), 1) := by decide +kernel
theorem dX1_removeLast_8 : decode cX1_removeLast 8 = .ok (.ireturn, 1) := by decide +kernel
theorem dX1_removeLast_9 : decode cX1_removeLast 9 = .ok (.aload_n 0, 1) := by decide +kernel
theorem dX1_removeLast_10 : decode cX1_removeLast 10 = .ok (.dup, 1) := by decide +kernel
theorem dX1_removeLast_11 : decode cX1_removeLast 11 = .ok (.getfield 7, 3) := by decide +kernel
theorem dX1_removeLast_14 : decode cX1_removeLast 14 = .ok (.iconst 1, 1) := by decide +kernel
theorem dX1_removeLast_15 : decode cX1_removeLast 15 = .ok (.isub, 1) := by decide +kernel
theorem dX1_removeLast_16 : decode cX1_removeLast 16 = .ok (.putfield 7, 3) := by decide +kernel
theorem dX1_removeLast_19 : decode cX1_removeLast 19 = .ok (.aload_n 0, 1) := by decide +kernel
theorem dX1_removeLast_20 : decode cX1_removeLast 20 = .ok (.getfield 7, 3) := by decide +kernel
theorem dX1_removeLast_23 : decode cX1_removeLast 23 = .ok (.ireturn, 1) := by decide +kernel
abbrev cX1_turn : ByteArray := prog_3_method_7_code
def yX1_turn : MethodName := ⟨RX1, "turn", "()I"⟩
theorem dX1_turn_0 : decode cX1_turn 0 = .ok (.iconst 0, 1) := by decide +kernel
theorem dX1_turn_1 : decode cX1_turn 1 = .ok (.istore_n 1, 1) := by decide +kernel
theorem dX1_turn_2 : decode cX1_turn 2 = .ok (.iload_n 1, 1) := by decide +kernel
theorem dX1_turn_3 : decode cX1_turn 3 = .ok (.aload_n 0, 1) := by decide +kernel
theorem dX1_turn_4 : decode cX1_turn 4 = .ok (.getfield 7, 3) := by decide +kernel
theorem dX1_turn_7 : decode cX1_turn 7 = .ok (.if_icmp .ge 16, 3) := by decide +kernel
theorem dX1_turn_10 : decode cX1_turn 10 = .ok (.aload_n 0, 1) := by decide +kernel
theorem dX1_turn_11 : decode cX1_turn 11 = .ok (.getfield 17, 3) := by decide +kernel
theorem dX1_turn_14 : decode cX1_turn 14 = .ok (.iload_n 1, 1) := by decide +kernel
theorem dX1_turn_15 : decode cX1_turn 15 = .ok (.iconst 0, 1) := by decide +kernel
theorem dX1_turn_16 : decode cX1_turn 16 = .ok (.iastore, 1) := by decide +kernel
theorem dX1_turn_17 : decode cX1_turn 17 = .ok (.iinc 1 1, 3) := by decide +kernel
theorem dX1_turn_20 : decode cX1_turn 20 = .ok (.goto (-18), 3) := by decide +kernel
theorem dX1_turn_23 : decode cX1_turn 23 = .ok (.iconst 0, 1) := by decide +kernel
theorem dX1_turn_24 : decode cX1_turn 24 = .ok (.istore_n 1, 1) := by decide +kernel
theorem dX1_turn_25 : decode cX1_turn 25 = .ok (.iload_n 1, 1) := by decide +kernel
theorem dX1_turn_26 : decode cX1_turn 26 = .ok (.aload_n 0, 1) := by decide +kernel
theorem dX1_turn_27 : decode cX1_turn 27 = .ok (.getfield 7, 3) := by decide +kernel
theorem dX1_turn_30 : decode cX1_turn 30 = .ok (.if_icmp .ge 76, 3) := by decide +kernel
theorem dX1_turn_33 : decode cX1_turn 33 = .ok (.iconst 0, 1) := by decide +kernel
theorem dX1_turn_34 : decode cX1_turn 34 = .ok (.istore_n 2, 1) := by decide +kernel
theorem dX1_turn_35 : decode cX1_turn 35 = .ok (.iload_n 2, 1) := by decide +kernel
theorem dX1_turn_36 : decode cX1_turn 36 = .ok (.aload_n 0, 1) := by decide +kernel
theorem dX1_turn_37 : decode cX1_turn 37 = .ok (.getfield 7, 3) := by decide +kernel
theorem dX1_turn_40 : decode cX1_turn 40 = .ok (.if_icmp .ge 60, 3) := by decide +kernel
theorem dX1_turn_43 : decode cX1_turn 43 = .ok (.aload_n 0, 1) := by decide +kernel
theorem dX1_turn_44 : decode cX1_turn 44 = .ok (.aload_n 0, 1) := by decide +kernel
theorem dX1_turn_45 : decode cX1_turn 45 = .ok (.getfield 13, 3) := by decide +kernel
theorem dX1_turn_48 : decode cX1_turn 48 = .ok (.iload_n 1, 1) := by decide +kernel
theorem dX1_turn_49 : decode cX1_turn 49 = .ok (.iaload, 1) := by decide +kernel
theorem dX1_turn_50 : decode cX1_turn 50 = .ok (.iload_n 2, 1) := by decide +kernel
theorem dX1_turn_51 : decode cX1_turn 51 = .ok (.invokevirtual 20, 3) := by decide +kernel
theorem dX1_turn_54 : decode cX1_turn 54 = .ok (.ifCond .eq 40, 3) := by decide +kernel
theorem dX1_turn_57 : decode cX1_turn 57 = .ok (.aload_n 0, 1) := by decide +kernel
theorem dX1_turn_58 : decode cX1_turn 58 = .ok (.getfield 17, 3) := by decide +kernel
theorem dX1_turn_61 : decode cX1_turn 61 = .ok (.aload_n 0, 1) := by decide +kernel
theorem dX1_turn_62 : decode cX1_turn 62 = .ok (.getfield 7, 3) := by decide +kernel
theorem dX1_turn_65 : decode cX1_turn 65 = .ok (.iconst 1, 1) := by decide +kernel
theorem dX1_turn_66 : decode cX1_turn 66 = .ok (.isub, 1) := by decide +kernel
theorem dX1_turn_67 : decode cX1_turn 67 = .ok (.iload_n 2, 1) := by decide +kernel
theorem dX1_turn_68 : decode cX1_turn 68 = .ok (.isub, 1) := by decide +kernel
theorem dX1_turn_69 : decode cX1_turn 69 = .ok (.aload_n 0, 1) := by decide +kernel
theorem dX1_turn_70 : decode cX1_turn 70 = .ok (.getfield 17, 3) := by decide +kernel
theorem dX1_turn_73 : decode cX1_turn 73 = .ok (.aload_n 0, 1) := by decide +kernel
theorem dX1_turn_74 : decode cX1_turn 74 = .ok (.getfield 7, 3) := by decide +kernel
theorem dX1_turn_77 : decode cX1_turn 77 = .ok (.iconst 1, 1) := by decide +kernel
theorem dX1_turn_78 : decode cX1_turn 78 = .ok (.isub, 1) := by decide +kernel
theorem dX1_turn_79 : decode cX1_turn 79 = .ok (.iload_n 2, 1) := by decide +kernel
theorem dX1_turn_80 : decode cX1_turn 80 = .ok (.isub, 1) := by decide +kernel
theorem dX1_turn_81 : decode cX1_turn 81 = .ok (.iaload, 1) := by decide +kernel
theorem dX1_turn_82 : decode cX1_turn 82 = .ok (.iconst 1, 1) := by decide +kernel
theorem dX1_turn_83 : decode cX1_turn 83 = .ok (.aload_n 0, 1) := by decide +kernel
theorem dX1_turn_84 : decode cX1_turn 84 = .ok (.getfield 7, 3) := by decide +kernel
theorem dX1_turn_87 : decode cX1_turn 87 = .ok (.iconst 1, 1) := by decide +kernel
theorem dX1_turn_88 : decode cX1_turn 88 = .ok (.isub, 1) := by decide +kernel
theorem dX1_turn_89 : decode cX1_turn 89 = .ok (.iload_n 1, 1) := by decide +kernel
theorem dX1_turn_90 : decode cX1_turn 90 = .ok (.isub, 1) := by decide +kernel
theorem dX1_turn_91 : decode cX1_turn 91 = .ok (.ishl, 1) := by decide +kernel
theorem dX1_turn_92 : decode cX1_turn 92 = .ok (.ior, 1) := by decide +kernel
theorem dX1_turn_93 : decode cX1_turn 93 = .ok (.iastore, 1) := by decide +kernel
theorem dX1_turn_94 : decode cX1_turn 94 = .ok (.iinc 2 1, 3) := by decide +kernel
theorem dX1_turn_97 : decode cX1_turn 97 = .ok (.goto (-62), 3) := by decide +kernel
theorem dX1_turn_100 : decode cX1_turn 100 = .ok (.iinc 1 1, 3) := by decide +kernel
theorem dX1_turn_103 : decode cX1_turn 103 = .ok (.goto (-78), 3) := by decide +kernel
theorem dX1_turn_106 : decode cX1_turn 106 = .ok (.iconst 0, 1) := by decide +kernel
theorem dX1_turn_107 : decode cX1_turn 107 = .ok (.istore_n 1, 1) := by decide +kernel
theorem dX1_turn_108 : decode cX1_turn 108 = .ok (.iload_n 1, 1) := by decide +kernel
theorem dX1_turn_109 : decode cX1_turn 109 = .ok (.aload_n 0, 1) := by decide +kernel
theorem dX1_turn_110 : decode cX1_turn 110 = .ok (.getfield 7, 3) := by decide +kernel
theorem dX1_turn_113 : decode cX1_turn 113 = .ok (.if_icmp .ge 21, 3) := by decide +kernel
theorem dX1_turn_116 : decode cX1_turn 116 = .ok (.aload_n 0, 1) := by decide +kernel
theorem dX1_turn_117 : decode cX1_turn 117 = .ok (.getfield 13, 3) := by decide +kernel
theorem dX1_turn_120 : decode cX1_turn 120 = .ok (.iload_n 1, 1) := by decide +kernel
theorem dX1_turn_121 : decode cX1_turn 121 = .ok (.aload_n 0, 1) := by decide +kernel
theorem dX1_turn_122 : decode cX1_turn 122 = .ok (.getfield 17, 3) := by decide +kernel
theorem dX1_turn_125 : decode cX1_turn 125 = .ok (.iload_n 1, 1) := by decide +kernel
theorem dX1_turn_126 : decode cX1_turn 126 = .ok (.iaload, 1) := by decide +kernel
theorem dX1_turn_127 : decode cX1_turn 127 = .ok (.iastore, 1) := by decide +kernel
theorem dX1_turn_128 : decode cX1_turn 128 = .ok (.iinc 1 1, 3) := by decide +kernel
theorem dX1_turn_131 : decode cX1_turn 131 = .ok (.goto (-23), 3) := by decide +kernel
theorem dX1_turn_134 : decode cX1_turn 134 = .ok (.aload_n 0, 1) := by decide +kernel
theorem dX1_turn_135 : decode cX1_turn 135 = .ok (.getfield 7, 3) := by decide +kernel
theorem dX1_turn_138 : decode cX1_turn 138 = .ok (.ireturn, 1) := by decide +kernel
abbrev cX1_size : ByteArray := prog_3_method_8_code
def yX1_size : MethodName := ⟨RX1, "size", "()I"⟩
theorem dX1_size_0 : decode cX1_size 0 = .ok (.aload_n 0, 1) := by decide +kernel
theorem dX1_size_1 : decode cX1_size 1 = .ok (.getfield 7, 3) := by decide +kernel
theorem dX1_size_4 : decode cX1_size 4 = .ok (.ireturn, 1) := by decide +kernel
abbrev cX1_below : ByteArray := prog_3_method_9_code
def yX1_below : MethodName := ⟨RX1, "below", "(II)Z"⟩
theorem dX1_below_0 : decode cX1_below 0 = .ok (.iload_n 1, 1) := by decide +kernel
theorem dX1_below_1 : decode cX1_below 1 = .ok (.ifCond .lt 41, 3) := by decide +kernel
theorem dX1_below_4 : decode cX1_below 4 = .ok (.iload_n 1, 1) := by decide +kernel
theorem dX1_below_5 : decode cX1_below 5 = .ok (.aload_n 0, 1) := by decide +kernel
theorem dX1_below_6 : decode cX1_below 6 = .ok (.getfield 7, 3) := by decide +kernel
theorem dX1_below_9 : decode cX1_below 9 = .ok (.if_icmp .ge 33, 3) := by decide +kernel
theorem dX1_below_12 : decode cX1_below 12 = .ok (.iload_n 2, 1) := by decide +kernel
theorem dX1_below_13 : decode cX1_below 13 = .ok (.ifCond .lt 29, 3) := by decide +kernel
theorem dX1_below_16 : decode cX1_below 16 = .ok (.iload_n 2, 1) := by decide +kernel
theorem dX1_below_17 : decode cX1_below 17 = .ok (.aload_n 0, 1) := by decide +kernel
theorem dX1_below_18 : decode cX1_below 18 = .ok (.getfield 7, 3) := by decide +kernel
theorem dX1_below_21 : decode cX1_below 21 = .ok (.if_icmp .ge 21, 3) := by decide +kernel
theorem dX1_below_24 : decode cX1_below 24 = .ok (.aload_n 0, 1) := by decide +kernel
theorem dX1_below_25 : decode cX1_below 25 = .ok (.aload_n 0, 1) := by decide +kernel
theorem dX1_below_26 : decode cX1_below 26 = .ok (.getfield 13, 3) := by decide +kernel
theorem dX1_below_29 : decode cX1_below 29 = .ok (.iload_n 2, 1) := by decide +kernel
theorem dX1_below_30 : decode cX1_below 30 = .ok (.iaload, 1) := by decide +kernel
theorem dX1_below_31 : decode cX1_below 31 = .ok (.iload_n 1, 1) := by decide +kernel
theorem dX1_below_32 : decode cX1_below 32 = .ok (.invokevirtual 20, 3) := by decide +kernel
theorem dX1_below_35 : decode cX1_below 35 = .ok (.ifCond .eq 7, 3) := by decide +kernel
theorem dX1_below_38 : decode cX1_below 38 = .ok (.iconst 1, 1) := by decide +kernel
theorem dX1_below_39 : decode cX1_below 39 = .ok (.goto 4, 3) := by decide +kernel
theorem dX1_below_42 : decode cX1_below 42 = .ok (.iconst 0, 1) := by decide +kernel
theorem dX1_below_43 : decode cX1_below 43 = .ok (.ireturn, 1) := by decide +kernel
abbrev cX1_width : ByteArray := prog_3_method_12_code
def yX1_width : MethodName := ⟨RX1, "width", "(I)I"⟩
theorem dX1_width_0 : decode cX1_width 0 = .ok (.aload_n 0, 1) := by decide +kernel
theorem dX1_width_1 : decode cX1_width 1 = .ok (.iload_n 1, 1) := by decide +kernel
theorem dX1_width_2 : decode cX1_width 2 = .ok (.invokevirtual 24, 3) := by decide +kernel
theorem dX1_width_5 : decode cX1_width 5 = .ok (.ifCond .eq 12, 3) := by decide +kernel
theorem dX1_width_8 : decode cX1_width 8 = .ok (.aload_n 0, 1) := by decide +kernel
theorem dX1_width_9 : decode cX1_width 9 = .ok (.iload_n 1, 1) := by decide +kernel
theorem dX1_width_10 : decode cX1_width 10 = .ok (.iconst 0, 1) := by decide +kernel
theorem dX1_width_11 : decode cX1_width 11 = .ok (.invokevirtual 36, 3) := by decide +kernel
theorem dX1_width_14 : decode cX1_width 14 = .ok (.goto 4, 3) := by decide +kernel
theorem dX1_width_17 : decode cX1_width 17 = .ok (.iconst (-1), 1) := by decide +kernel
theorem dX1_width_18 : decode cX1_width 18 = .ok (.ireturn, 1) := by decide +kernel
abbrev cX1_largest : ByteArray := prog_3_method_11_code
def yX1_largest : MethodName := ⟨RX1, "largest", "(IZ)I"⟩
theorem dX1_largest_0 : decode cX1_largest 0 = .ok (.iconst 0, 1) := by decide +kernel
theorem dX1_largest_1 : decode cX1_largest 1 = .ok (.istore_n 3, 1) := by decide +kernel
theorem dX1_largest_2 : decode cX1_largest 2 = .ok (.iload_n 1, 1) := by decide +kernel
theorem dX1_largest_3 : decode cX1_largest 3 = .ok (.istore 4, 2) := by decide +kernel
theorem dX1_largest_5 : decode cX1_largest 5 = .ok (.iload 4, 2) := by decide +kernel
theorem dX1_largest_7 : decode cX1_largest 7 = .ok (.ifCond .le 41, 3) := by decide +kernel
theorem dX1_largest_10 : decode cX1_largest 10 = .ok (.aload_n 0, 1) := by decide +kernel
theorem dX1_largest_11 : decode cX1_largest 11 = .ok (.iload 4, 2) := by decide +kernel
theorem dX1_largest_13 : decode cX1_largest 13 = .ok (.invokevirtual 28, 3) := by decide +kernel
theorem dX1_largest_16 : decode cX1_largest 16 = .ok (.istore 5, 2) := by decide +kernel
theorem dX1_largest_18 : decode cX1_largest 18 = .ok (.iload 5, 2) := by decide +kernel
theorem dX1_largest_20 : decode cX1_largest 20 = .ok (.iload_n 3, 1) := by decide +kernel
theorem dX1_largest_21 : decode cX1_largest 21 = .ok (.if_icmp .le 16, 3) := by decide +kernel
theorem dX1_largest_24 : decode cX1_largest 24 = .ok (.aload_n 0, 1) := by decide +kernel
theorem dX1_largest_25 : decode cX1_largest 25 = .ok (.iload 4, 2) := by decide +kernel
theorem dX1_largest_27 : decode cX1_largest 27 = .ok (.iload_n 2, 1) := by decide +kernel
theorem dX1_largest_28 : decode cX1_largest 28 = .ok (.invokevirtual 32, 3) := by decide +kernel
theorem dX1_largest_31 : decode cX1_largest 31 = .ok (.ifCond .eq 6, 3) := by decide +kernel
theorem dX1_largest_34 : decode cX1_largest 34 = .ok (.iload 5, 2) := by decide +kernel
theorem dX1_largest_36 : decode cX1_largest 36 = .ok (.istore_n 3, 1) := by decide +kernel
theorem dX1_largest_37 : decode cX1_largest 37 = .ok (.iload 4, 2) := by decide +kernel
theorem dX1_largest_39 : decode cX1_largest 39 = .ok (.iconst 1, 1) := by decide +kernel
theorem dX1_largest_40 : decode cX1_largest 40 = .ok (.isub, 1) := by decide +kernel
theorem dX1_largest_41 : decode cX1_largest 41 = .ok (.iload_n 1, 1) := by decide +kernel
theorem dX1_largest_42 : decode cX1_largest 42 = .ok (.iand, 1) := by decide +kernel
theorem dX1_largest_43 : decode cX1_largest 43 = .ok (.istore 4, 2) := by decide +kernel
theorem dX1_largest_45 : decode cX1_largest 45 = .ok (.goto (-40), 3) := by decide +kernel
theorem dX1_largest_48 : decode cX1_largest 48 = .ok (.iload_n 3, 1) := by decide +kernel
theorem dX1_largest_49 : decode cX1_largest 49 = .ok (.ireturn, 1) := by decide +kernel
abbrev cX1_sizeOf : ByteArray := prog_3_method_4_code
def yX1_sizeOf : MethodName := ⟨RX1, "sizeOf", "(I)I"⟩
theorem dX1_sizeOf_0 : decode cX1_sizeOf 0 = .ok (.iconst 0, 1) := by decide +kernel
theorem dX1_sizeOf_1 : decode cX1_sizeOf 1 = .ok (.istore_n 2, 1) := by decide +kernel
theorem dX1_sizeOf_2 : decode cX1_sizeOf 2 = .ok (.iconst 0, 1) := by decide +kernel
theorem dX1_sizeOf_3 : decode cX1_sizeOf 3 = .ok (.istore_n 3, 1) := by decide +kernel
theorem dX1_sizeOf_4 : decode cX1_sizeOf 4 = .ok (.iload_n 3, 1) := by decide +kernel
theorem dX1_sizeOf_5 : decode cX1_sizeOf 5 = .ok (.bipush 10, 2) := by decide +kernel
theorem dX1_sizeOf_7 : decode cX1_sizeOf 7 = .ok (.if_icmp .ge 21, 3) := by decide +kernel
theorem dX1_sizeOf_10 : decode cX1_sizeOf 10 = .ok (.aload_n 0, 1) := by decide +kernel
theorem dX1_sizeOf_11 : decode cX1_sizeOf 11 = .ok (.iload_n 1, 1) := by decide +kernel
theorem dX1_sizeOf_12 : decode cX1_sizeOf 12 = .ok (.iload_n 3, 1) := by decide +kernel
theorem dX1_sizeOf_13 : decode cX1_sizeOf 13 = .ok (.invokevirtual 20, 3) := by decide +kernel
theorem dX1_sizeOf_16 : decode cX1_sizeOf 16 = .ok (.ifCond .eq 6, 3) := by decide +kernel
theorem dX1_sizeOf_19 : decode cX1_sizeOf 19 = .ok (.iinc 2 1, 3) := by decide +kernel
theorem dX1_sizeOf_22 : decode cX1_sizeOf 22 = .ok (.iinc 3 1, 3) := by decide +kernel
theorem dX1_sizeOf_25 : decode cX1_sizeOf 25 = .ok (.goto (-21), 3) := by decide +kernel
theorem dX1_sizeOf_28 : decode cX1_sizeOf 28 = .ok (.iload_n 2, 1) := by decide +kernel
theorem dX1_sizeOf_29 : decode cX1_sizeOf 29 = .ok (.ireturn, 1) := by decide +kernel
abbrev cX1_uniform : ByteArray := prog_3_method_10_code
def yX1_uniform : MethodName := ⟨RX1, "uniform", "(IZ)Z"⟩
theorem dX1_uniform_0 : decode cX1_uniform 0 = .ok (.iconst 0, 1) := by decide +kernel
theorem dX1_uniform_1 : decode cX1_uniform 1 = .ok (.istore_n 3, 1) := by decide +kernel
theorem dX1_uniform_2 : decode cX1_uniform 2 = .ok (.iload_n 3, 1) := by decide +kernel
theorem dX1_uniform_3 : decode cX1_uniform 3 = .ok (.aload_n 0, 1) := by decide +kernel
theorem dX1_uniform_4 : decode cX1_uniform 4 = .ok (.getfield 7, 3) := by decide +kernel
theorem dX1_uniform_7 : decode cX1_uniform 7 = .ok (.if_icmp .ge 88, 3) := by decide +kernel
theorem dX1_uniform_10 : decode cX1_uniform 10 = .ok (.iconst 0, 1) := by decide +kernel
theorem dX1_uniform_11 : decode cX1_uniform 11 = .ok (.istore 4, 2) := by decide +kernel
theorem dX1_uniform_13 : decode cX1_uniform 13 = .ok (.iload 4, 2) := by decide +kernel
theorem dX1_uniform_15 : decode cX1_uniform 15 = .ok (.iload_n 3, 1) := by decide +kernel
theorem dX1_uniform_16 : decode cX1_uniform 16 = .ok (.if_icmp .ge 73, 3) := by decide +kernel
theorem dX1_uniform_19 : decode cX1_uniform 19 = .ok (.aload_n 0, 1) := by decide +kernel
theorem dX1_uniform_20 : decode cX1_uniform 20 = .ok (.aload_n 0, 1) := by decide +kernel
theorem dX1_uniform_21 : decode cX1_uniform 21 = .ok (.getfield 13, 3) := by decide +kernel
theorem dX1_uniform_24 : decode cX1_uniform 24 = .ok (.iload_n 3, 1) := by decide +kernel
theorem dX1_uniform_25 : decode cX1_uniform 25 = .ok (.iaload, 1) := by decide +kernel
theorem dX1_uniform_26 : decode cX1_uniform 26 = .ok (.iload 4, 2) := by decide +kernel
theorem dX1_uniform_28 : decode cX1_uniform 28 = .ok (.invokevirtual 20, 3) := by decide +kernel
theorem dX1_uniform_31 : decode cX1_uniform 31 = .ok (.ifCond .ne 18, 3) := by decide +kernel
theorem dX1_uniform_34 : decode cX1_uniform 34 = .ok (.aload_n 0, 1) := by decide +kernel
theorem dX1_uniform_35 : decode cX1_uniform 35 = .ok (.aload_n 0, 1) := by decide +kernel
theorem dX1_uniform_36 : decode cX1_uniform 36 = .ok (.getfield 13, 3) := by decide +kernel
theorem dX1_uniform_39 : decode cX1_uniform 39 = .ok (.iload 4, 2) := by decide +kernel
theorem dX1_uniform_41 : decode cX1_uniform 41 = .ok (.iaload, 1) := by decide +kernel
theorem dX1_uniform_42 : decode cX1_uniform 42 = .ok (.iload_n 3, 1) := by decide +kernel
theorem dX1_uniform_43 : decode cX1_uniform 43 = .ok (.invokevirtual 20, 3) := by decide +kernel
theorem dX1_uniform_46 : decode cX1_uniform 46 = .ok (.ifCond .eq 7, 3) := by decide +kernel
theorem dX1_uniform_49 : decode cX1_uniform 49 = .ok (.iconst 1, 1) := by decide +kernel
theorem dX1_uniform_50 : decode cX1_uniform 50 = .ok (.goto 4, 3) := by decide +kernel
theorem dX1_uniform_53 : decode cX1_uniform 53 = .ok (.iconst 0, 1) := by decide +kernel
theorem dX1_uniform_54 : decode cX1_uniform 54 = .ok (.istore 5, 2) := by decide +kernel
theorem dX1_uniform_56 : decode cX1_uniform 56 = .ok (.aload_n 0, 1) := by decide +kernel
theorem dX1_uniform_57 : decode cX1_uniform 57 = .ok (.iload_n 1, 1) := by decide +kernel
theorem dX1_uniform_58 : decode cX1_uniform 58 = .ok (.iload 4, 2) := by decide +kernel
theorem dX1_uniform_60 : decode cX1_uniform 60 = .ok (.invokevirtual 20, 3) := by decide +kernel
theorem dX1_uniform_63 : decode cX1_uniform 63 = .ok (.ifCond .eq 20, 3) := by decide +kernel
theorem dX1_uniform_66 : decode cX1_uniform 66 = .ok (.aload_n 0, 1) := by decide +kernel
theorem dX1_uniform_67 : decode cX1_uniform 67 = .ok (.iload_n 1, 1) := by decide +kernel
theorem dX1_uniform_68 : decode cX1_uniform 68 = .ok (.iload_n 3, 1) := by decide +kernel
theorem dX1_uniform_69 : decode cX1_uniform 69 = .ok (.invokevirtual 20, 3) := by decide +kernel
theorem dX1_uniform_72 : decode cX1_uniform 72 = .ok (.ifCond .eq 11, 3) := by decide +kernel
theorem dX1_uniform_75 : decode cX1_uniform 75 = .ok (.iload 5, 2) := by decide +kernel
theorem dX1_uniform_77 : decode cX1_uniform 77 = .ok (.iload_n 2, 1) := by decide +kernel
theorem dX1_uniform_78 : decode cX1_uniform 78 = .ok (.if_icmp .eq 5, 3) := by decide +kernel
theorem dX1_uniform_81 : decode cX1_uniform 81 = .ok (.iconst 0, 1) := by decide +kernel
theorem dX1_uniform_82 : decode cX1_uniform 82 = .ok (.ireturn, 1) := by decide +kernel
theorem dX1_uniform_83 : decode cX1_uniform 83 = .ok (.iinc 4 1, 3) := by decide +kernel
theorem dX1_uniform_86 : decode cX1_uniform 86 = .ok (.goto (-73), 3) := by decide +kernel
theorem dX1_uniform_89 : decode cX1_uniform 89 = .ok (.iinc 3 1, 3) := by decide +kernel
theorem dX1_uniform_92 : decode cX1_uniform 92 = .ok (.goto (-90), 3) := by decide +kernel
theorem dX1_uniform_95 : decode cX1_uniform 95 = .ok (.iconst 1, 1) := by decide +kernel
theorem dX1_uniform_96 : decode cX1_uniform 96 = .ok (.ireturn, 1) := by decide +kernel
abbrev cX1_chains : ByteArray := prog_3_method_13_code
def yX1_chains : MethodName := ⟨RX1, "chains", "(I)I"⟩
theorem dX1_chains_0 : decode cX1_chains 0 = .ok (.aload_n 0, 1) := by decide +kernel
theorem dX1_chains_1 : decode cX1_chains 1 = .ok (.iload_n 1, 1) := by decide +kernel
theorem dX1_chains_2 : decode cX1_chains 2 = .ok (.invokevirtual 24, 3) := by decide +kernel
theorem dX1_chains_5 : decode cX1_chains 5 = .ok (.ifCond .ne 5, 3) := by decide +kernel
theorem dX1_chains_8 : decode cX1_chains 8 = .ok (.iconst (-1), 1) := by decide +kernel
theorem dX1_chains_9 : decode cX1_chains 9 = .ok (.ireturn, 1) := by decide +kernel
theorem dX1_chains_10 : decode cX1_chains 10 = .ok (.iconst 0, 1) := by decide +kernel
theorem dX1_chains_11 : decode cX1_chains 11 = .ok (.istore_n 2, 1) := by decide +kernel
theorem dX1_chains_12 : decode cX1_chains 12 = .ok (.iload_n 2, 1) := by decide +kernel
theorem dX1_chains_13 : decode cX1_chains 13 = .ok (.iload_n 1, 1) := by decide +kernel
theorem dX1_chains_14 : decode cX1_chains 14 = .ok (.if_icmp .gt 25, 3) := by decide +kernel
theorem dX1_chains_17 : decode cX1_chains 17 = .ok (.aload_n 0, 1) := by decide +kernel
theorem dX1_chains_18 : decode cX1_chains 18 = .ok (.getfield 17, 3) := by decide +kernel
theorem dX1_chains_21 : decode cX1_chains 21 = .ok (.iload_n 2, 1) := by decide +kernel
theorem dX1_chains_22 : decode cX1_chains 22 = .ok (.iload_n 2, 1) := by decide +kernel
theorem dX1_chains_23 : decode cX1_chains 23 = .ok (.ifCond .ne 7, 3) := by decide +kernel
theorem dX1_chains_26 : decode cX1_chains 26 = .ok (.iconst 0, 1) := by decide +kernel
theorem dX1_chains_27 : decode cX1_chains 27 = .ok (.goto 5, 3) := by decide +kernel
theorem dX1_chains_30 : decode cX1_chains 30 = .ok (.bipush 100, 2) := by decide +kernel
theorem dX1_chains_32 : decode cX1_chains 32 = .ok (.iastore, 1) := by decide +kernel
theorem dX1_chains_33 : decode cX1_chains 33 = .ok (.iinc 2 1, 3) := by decide +kernel
theorem dX1_chains_36 : decode cX1_chains 36 = .ok (.goto (-24), 3) := by decide +kernel
theorem dX1_chains_39 : decode cX1_chains 39 = .ok (.iconst 1, 1) := by decide +kernel
theorem dX1_chains_40 : decode cX1_chains 40 = .ok (.istore_n 2, 1) := by decide +kernel
theorem dX1_chains_41 : decode cX1_chains 41 = .ok (.iload_n 2, 1) := by decide +kernel
theorem dX1_chains_42 : decode cX1_chains 42 = .ok (.iload_n 1, 1) := by decide +kernel
theorem dX1_chains_43 : decode cX1_chains 43 = .ok (.if_icmp .gt 106, 3) := by decide +kernel
theorem dX1_chains_46 : decode cX1_chains 46 = .ok (.iload_n 2, 1) := by decide +kernel
theorem dX1_chains_47 : decode cX1_chains 47 = .ok (.iload_n 1, 1) := by decide +kernel
theorem dX1_chains_48 : decode cX1_chains 48 = .ok (.iconst (-1), 1) := by decide +kernel
theorem dX1_chains_49 : decode cX1_chains 49 = .ok (.ixor, 1) := by decide +kernel
theorem dX1_chains_50 : decode cX1_chains 50 = .ok (.iand, 1) := by decide +kernel
theorem dX1_chains_51 : decode cX1_chains 51 = .ok (.ifCond .ne 16, 3) := by decide +kernel
theorem dX1_chains_54 : decode cX1_chains 54 = .ok (.aload_n 0, 1) := by decide +kernel
theorem dX1_chains_55 : decode cX1_chains 55 = .ok (.iload_n 2, 1) := by decide +kernel
theorem dX1_chains_56 : decode cX1_chains 56 = .ok (.iconst 1, 1) := by decide +kernel
theorem dX1_chains_57 : decode cX1_chains 57 = .ok (.invokevirtual 32, 3) := by decide +kernel
theorem dX1_chains_60 : decode cX1_chains 60 = .ok (.ifCond .eq 7, 3) := by decide +kernel
theorem dX1_chains_63 : decode cX1_chains 63 = .ok (.iconst 1, 1) := by decide +kernel
theorem dX1_chains_64 : decode cX1_chains 64 = .ok (.goto 4, 3) := by decide +kernel
theorem dX1_chains_67 : decode cX1_chains 67 = .ok (.iconst 0, 1) := by decide +kernel
theorem dX1_chains_68 : decode cX1_chains 68 = .ok (.istore_n 3, 1) := by decide +kernel
theorem dX1_chains_69 : decode cX1_chains 69 = .ok (.iconst 0, 1) := by decide +kernel
theorem dX1_chains_70 : decode cX1_chains 70 = .ok (.istore 4, 2) := by decide +kernel
theorem dX1_chains_72 : decode cX1_chains 72 = .ok (.iload_n 3, 1) := by decide +kernel
theorem dX1_chains_73 : decode cX1_chains 73 = .ok (.ifCond .eq 70, 3) := by decide +kernel
theorem dX1_chains_76 : decode cX1_chains 76 = .ok (.iload 4, 2) := by decide +kernel
theorem dX1_chains_78 : decode cX1_chains 78 = .ok (.iload_n 1, 1) := by decide +kernel
theorem dX1_chains_79 : decode cX1_chains 79 = .ok (.if_icmp .gt 64, 3) := by decide +kernel
theorem dX1_chains_82 : decode cX1_chains 82 = .ok (.iload 4, 2) := by decide +kernel
theorem dX1_chains_84 : decode cX1_chains 84 = .ok (.iload_n 2, 1) := by decide +kernel
theorem dX1_chains_85 : decode cX1_chains 85 = .ok (.iand, 1) := by decide +kernel
theorem dX1_chains_86 : decode cX1_chains 86 = .ok (.ifCond .ne 51, 3) := by decide +kernel
theorem dX1_chains_89 : decode cX1_chains 89 = .ok (.iload 4, 2) := by decide +kernel
theorem dX1_chains_91 : decode cX1_chains 91 = .ok (.iload_n 1, 1) := by decide +kernel
theorem dX1_chains_92 : decode cX1_chains 92 = .ok (.iconst (-1), 1) := by decide +kernel
theorem dX1_chains_93 : decode cX1_chains 93 = .ok (.ixor, 1) := by decide +kernel
theorem dX1_chains_94 : decode cX1_chains 94 = .ok (.iand, 1) := by decide +kernel
theorem dX1_chains_95 : decode cX1_chains 95 = .ok (.ifCond .ne 42, 3) := by decide +kernel
theorem dX1_chains_98 : decode cX1_chains 98 = .ok (.aload_n 0, 1) := by decide +kernel
theorem dX1_chains_99 : decode cX1_chains 99 = .ok (.getfield 17, 3) := by decide +kernel
theorem dX1_chains_102 : decode cX1_chains 102 = .ok (.iload 4, 2) := by decide +kernel
theorem dX1_chains_104 : decode cX1_chains 104 = .ok (.iaload, 1) := by decide +kernel
theorem dX1_chains_105 : decode cX1_chains 105 = .ok (.iconst 1, 1) := by decide +kernel
theorem dX1_chains_106 : decode cX1_chains 106 = .ok (.iadd, 1) := by decide +kernel
theorem dX1_chains_107 : decode cX1_chains 107 = .ok (.aload_n 0, 1) := by decide +kernel
theorem dX1_chains_108 : decode cX1_chains 108 = .ok (.getfield 17, 3) := by decide +kernel
theorem dX1_chains_111 : decode cX1_chains 111 = .ok (.iload 4, 2) := by decide +kernel
theorem dX1_chains_113 : decode cX1_chains 113 = .ok (.iload_n 2, 1) := by decide +kernel
theorem dX1_chains_114 : decode cX1_chains 114 = .ok (.ior, 1) := by decide +kernel
theorem dX1_chains_115 : decode cX1_chains 115 = .ok (.iaload, 1) := by decide +kernel
theorem dX1_chains_116 : decode cX1_chains 116 = .ok (.if_icmp .ge 21, 3) := by decide +kernel
theorem dX1_chains_119 : decode cX1_chains 119 = .ok (.aload_n 0, 1) := by decide +kernel
theorem dX1_chains_120 : decode cX1_chains 120 = .ok (.getfield 17, 3) := by decide +kernel
theorem dX1_chains_123 : decode cX1_chains 123 = .ok (.iload 4, 2) := by decide +kernel
theorem dX1_chains_125 : decode cX1_chains 125 = .ok (.iload_n 2, 1) := by decide +kernel
theorem dX1_chains_126 : decode cX1_chains 126 = .ok (.ior, 1) := by decide +kernel
theorem dX1_chains_127 : decode cX1_chains 127 = .ok (.aload_n 0, 1) := by decide +kernel
theorem dX1_chains_128 : decode cX1_chains 128 = .ok (.getfield 17, 3) := by decide +kernel
theorem dX1_chains_131 : decode cX1_chains 131 = .ok (.iload 4, 2) := by decide +kernel
theorem dX1_chains_133 : decode cX1_chains 133 = .ok (.iaload, 1) := by decide +kernel
theorem dX1_chains_134 : decode cX1_chains 134 = .ok (.iconst 1, 1) := by decide +kernel
theorem dX1_chains_135 : decode cX1_chains 135 = .ok (.iadd, 1) := by decide +kernel
theorem dX1_chains_136 : decode cX1_chains 136 = .ok (.iastore, 1) := by decide +kernel
theorem dX1_chains_137 : decode cX1_chains 137 = .ok (.iinc 4 1, 3) := by decide +kernel
theorem dX1_chains_140 : decode cX1_chains 140 = .ok (.goto (-68), 3) := by decide +kernel
theorem dX1_chains_143 : decode cX1_chains 143 = .ok (.iinc 2 1, 3) := by decide +kernel
theorem dX1_chains_146 : decode cX1_chains 146 = .ok (.goto (-105), 3) := by decide +kernel
theorem dX1_chains_149 : decode cX1_chains 149 = .ok (.aload_n 0, 1) := by decide +kernel
theorem dX1_chains_150 : decode cX1_chains 150 = .ok (.getfield 17, 3) := by decide +kernel
theorem dX1_chains_153 : decode cX1_chains 153 = .ok (.iload_n 1, 1) := by decide +kernel
theorem dX1_chains_154 : decode cX1_chains 154 = .ok (.iaload, 1) := by decide +kernel
theorem dX1_chains_155 : decode cX1_chains 155 = .ok (.ireturn, 1) := by decide +kernel
abbrev cX1_longestChain : ByteArray := prog_3_method_14_code
def yX1_longestChain : MethodName := ⟨RX1, "longestChain", "(I)I"⟩
theorem dX1_longestChain_0 : decode cX1_longestChain 0 = .ok (.aload_n 0, 1) := by decide +kernel
theorem dX1_longestChain_1 : decode cX1_longestChain 1 = .ok (.iload_n 1, 1) := by decide +kernel
theorem dX1_longestChain_2 : decode cX1_longestChain 2 = .ok (.invokevirtual 24, 3) := by decide +kernel
theorem dX1_longestChain_5 : decode cX1_longestChain 5 = .ok (.ifCond .eq 12, 3) := by decide +kernel
theorem dX1_longestChain_8 : decode cX1_longestChain 8 = .ok (.aload_n 0, 1) := by decide +kernel
theorem dX1_longestChain_9 : decode cX1_longestChain 9 = .ok (.iload_n 1, 1) := by decide +kernel
theorem dX1_longestChain_10 : decode cX1_longestChain 10 = .ok (.iconst 1, 1) := by decide +kernel
theorem dX1_longestChain_11 : decode cX1_longestChain 11 = .ok (.invokevirtual 36, 3) := by decide +kernel
theorem dX1_longestChain_14 : decode cX1_longestChain 14 = .ok (.goto 4, 3) := by decide +kernel
theorem dX1_longestChain_17 : decode cX1_longestChain 17 = .ok (.iconst (-1), 1) := by decide +kernel
theorem dX1_longestChain_18 : decode cX1_longestChain 18 = .ok (.ireturn, 1) := by decide +kernel
abbrev cX1_lowest : ByteArray := prog_3_method_21_code
def yX1_lowest : MethodName := ⟨RX1, "lowest", "()I"⟩
theorem dX1_lowest_0 : decode cX1_lowest 0 = .ok (.aload_n 0, 1) := by decide +kernel
theorem dX1_lowest_1 : decode cX1_lowest 1 = .ok (.iconst 1, 1) := by decide +kernel
theorem dX1_lowest_2 : decode cX1_lowest 2 = .ok (.invokevirtual 58, 3) := by decide +kernel
theorem dX1_lowest_5 : decode cX1_lowest 5 = .ok (.ireturn, 1) := by decide +kernel
abbrev cX1_extreme : ByteArray := prog_3_method_20_code
def yX1_extreme : MethodName := ⟨RX1, "extreme", "(Z)I"⟩
theorem dX1_extreme_0 : decode cX1_extreme 0 = .ok (.aload_n 0, 1) := by decide +kernel
theorem dX1_extreme_1 : decode cX1_extreme 1 = .ok (.invokevirtual 52, 3) := by decide +kernel
theorem dX1_extreme_4 : decode cX1_extreme 4 = .ok (.iconst 0, 1) := by decide +kernel
theorem dX1_extreme_5 : decode cX1_extreme 5 = .ok (.istore_n 2, 1) := by decide +kernel
theorem dX1_extreme_6 : decode cX1_extreme 6 = .ok (.iload_n 2, 1) := by decide +kernel
theorem dX1_extreme_7 : decode cX1_extreme 7 = .ok (.iconst 1, 1) := by decide +kernel
theorem dX1_extreme_8 : decode cX1_extreme 8 = .ok (.aload_n 0, 1) := by decide +kernel
theorem dX1_extreme_9 : decode cX1_extreme 9 = .ok (.getfield 7, 3) := by decide +kernel
theorem dX1_extreme_12 : decode cX1_extreme 12 = .ok (.ishl, 1) := by decide +kernel
theorem dX1_extreme_13 : decode cX1_extreme 13 = .ok (.if_icmp .ge 30, 3) := by decide +kernel
theorem dX1_extreme_16 : decode cX1_extreme 16 = .ok (.aload_n 0, 1) := by decide +kernel
theorem dX1_extreme_17 : decode cX1_extreme 17 = .ok (.getfield 17, 3) := by decide +kernel
theorem dX1_extreme_20 : decode cX1_extreme 20 = .ok (.iload_n 2, 1) := by decide +kernel
theorem dX1_extreme_21 : decode cX1_extreme 21 = .ok (.iaload, 1) := by decide +kernel
theorem dX1_extreme_22 : decode cX1_extreme 22 = .ok (.iconst 1, 1) := by decide +kernel
theorem dX1_extreme_23 : decode cX1_extreme 23 = .ok (.if_icmp .ne 14, 3) := by decide +kernel
theorem dX1_extreme_26 : decode cX1_extreme 26 = .ok (.aload_n 0, 1) := by decide +kernel
theorem dX1_extreme_27 : decode cX1_extreme 27 = .ok (.iload_n 2, 1) := by decide +kernel
theorem dX1_extreme_28 : decode cX1_extreme 28 = .ok (.iload_n 1, 1) := by decide +kernel
theorem dX1_extreme_29 : decode cX1_extreme 29 = .ok (.invokevirtual 55, 3) := by decide +kernel
theorem dX1_extreme_32 : decode cX1_extreme 32 = .ok (.ifCond .eq 5, 3) := by decide +kernel
theorem dX1_extreme_35 : decode cX1_extreme 35 = .ok (.iload_n 2, 1) := by decide +kernel
theorem dX1_extreme_36 : decode cX1_extreme 36 = .ok (.ireturn, 1) := by decide +kernel
theorem dX1_extreme_37 : decode cX1_extreme 37 = .ok (.iinc 2 1, 3) := by decide +kernel
theorem dX1_extreme_40 : decode cX1_extreme 40 = .ok (.goto (-34), 3) := by decide +kernel
theorem dX1_extreme_43 : decode cX1_extreme 43 = .ok (.iconst 0, 1) := by decide +kernel
theorem dX1_extreme_44 : decode cX1_extreme 44 = .ok (.ireturn, 1) := by decide +kernel
abbrev cX1_findLargest : ByteArray := prog_3_method_18_code
def yX1_findLargest : MethodName := ⟨RX1, "findLargest", "()V"⟩
theorem dX1_findLargest_0 : decode cX1_findLargest 0 = .ok (.aload_n 0, 1) := by decide +kernel
theorem dX1_findLargest_1 : decode cX1_findLargest 1 = .ok (.iconst 1, 1) := by decide +kernel
theorem dX1_findLargest_2 : decode cX1_findLargest 2 = .ok (.aload_n 0, 1) := by decide +kernel
theorem dX1_findLargest_3 : decode cX1_findLargest 3 = .ok (.getfield 7, 3) := by decide +kernel
theorem dX1_findLargest_6 : decode cX1_findLargest 6 = .ok (.ishl, 1) := by decide +kernel
theorem dX1_findLargest_7 : decode cX1_findLargest 7 = .ok (.iconst 1, 1) := by decide +kernel
theorem dX1_findLargest_8 : decode cX1_findLargest 8 = .ok (.isub, 1) := by decide +kernel
theorem dX1_findLargest_9 : decode cX1_findLargest 9 = .ok (.invokevirtual 43, 3) := by decide +kernel
theorem dX1_findLargest_12 : decode cX1_findLargest 12 = .ok (.istore_n 1, 1) := by decide +kernel
theorem dX1_findLargest_13 : decode cX1_findLargest 13 = .ok (.iconst 0, 1) := by decide +kernel
theorem dX1_findLargest_14 : decode cX1_findLargest 14 = .ok (.istore_n 2, 1) := by decide +kernel
theorem dX1_findLargest_15 : decode cX1_findLargest 15 = .ok (.iload_n 2, 1) := by decide +kernel
theorem dX1_findLargest_16 : decode cX1_findLargest 16 = .ok (.iconst 1, 1) := by decide +kernel
theorem dX1_findLargest_17 : decode cX1_findLargest 17 = .ok (.aload_n 0, 1) := by decide +kernel
theorem dX1_findLargest_18 : decode cX1_findLargest 18 = .ok (.getfield 7, 3) := by decide +kernel
theorem dX1_findLargest_21 : decode cX1_findLargest 21 = .ok (.ishl, 1) := by decide +kernel
theorem dX1_findLargest_22 : decode cX1_findLargest 22 = .ok (.if_icmp .ge 40, 3) := by decide +kernel
theorem dX1_findLargest_25 : decode cX1_findLargest 25 = .ok (.aload_n 0, 1) := by decide +kernel
theorem dX1_findLargest_26 : decode cX1_findLargest 26 = .ok (.iload_n 2, 1) := by decide +kernel
theorem dX1_findLargest_27 : decode cX1_findLargest 27 = .ok (.invokevirtual 28, 3) := by decide +kernel
theorem dX1_findLargest_30 : decode cX1_findLargest 30 = .ok (.istore_n 3, 1) := by decide +kernel
theorem dX1_findLargest_31 : decode cX1_findLargest 31 = .ok (.aload_n 0, 1) := by decide +kernel
theorem dX1_findLargest_32 : decode cX1_findLargest 32 = .ok (.getfield 17, 3) := by decide +kernel
theorem dX1_findLargest_35 : decode cX1_findLargest 35 = .ok (.iload_n 2, 1) := by decide +kernel
theorem dX1_findLargest_36 : decode cX1_findLargest 36 = .ok (.iload_n 3, 1) := by decide +kernel
theorem dX1_findLargest_37 : decode cX1_findLargest 37 = .ok (.iload_n 1, 1) := by decide +kernel
theorem dX1_findLargest_38 : decode cX1_findLargest 38 = .ok (.if_icmp .ne 16, 3) := by decide +kernel
theorem dX1_findLargest_41 : decode cX1_findLargest 41 = .ok (.aload_n 0, 1) := by decide +kernel
theorem dX1_findLargest_42 : decode cX1_findLargest 42 = .ok (.iload_n 2, 1) := by decide +kernel
theorem dX1_findLargest_43 : decode cX1_findLargest 43 = .ok (.iconst 0, 1) := by decide +kernel
theorem dX1_findLargest_44 : decode cX1_findLargest 44 = .ok (.invokevirtual 32, 3) := by decide +kernel
theorem dX1_findLargest_47 : decode cX1_findLargest 47 = .ok (.ifCond .eq 7, 3) := by decide +kernel
theorem dX1_findLargest_50 : decode cX1_findLargest 50 = .ok (.iconst 1, 1) := by decide +kernel
theorem dX1_findLargest_51 : decode cX1_findLargest 51 = .ok (.goto 4, 3) := by decide +kernel
theorem dX1_findLargest_54 : decode cX1_findLargest 54 = .ok (.iconst 0, 1) := by decide +kernel
theorem dX1_findLargest_55 : decode cX1_findLargest 55 = .ok (.iastore, 1) := by decide +kernel
theorem dX1_findLargest_56 : decode cX1_findLargest 56 = .ok (.iinc 2 1, 3) := by decide +kernel
theorem dX1_findLargest_59 : decode cX1_findLargest 59 = .ok (.goto (-44), 3) := by decide +kernel
theorem dX1_findLargest_62 : decode cX1_findLargest 62 = .ok (.return_, 1) := by decide +kernel
abbrev cX1_isExtreme : ByteArray := prog_3_method_19_code
def yX1_isExtreme : MethodName := ⟨RX1, "isExtreme", "(IZ)Z"⟩
theorem dX1_isExtreme_0 : decode cX1_isExtreme 0 = .ok (.iconst 0, 1) := by decide +kernel
theorem dX1_isExtreme_1 : decode cX1_isExtreme 1 = .ok (.istore_n 3, 1) := by decide +kernel
theorem dX1_isExtreme_2 : decode cX1_isExtreme 2 = .ok (.iload_n 3, 1) := by decide +kernel
theorem dX1_isExtreme_3 : decode cX1_isExtreme 3 = .ok (.iconst 1, 1) := by decide +kernel
theorem dX1_isExtreme_4 : decode cX1_isExtreme 4 = .ok (.aload_n 0, 1) := by decide +kernel
theorem dX1_isExtreme_5 : decode cX1_isExtreme 5 = .ok (.getfield 7, 3) := by decide +kernel
theorem dX1_isExtreme_8 : decode cX1_isExtreme 8 = .ok (.ishl, 1) := by decide +kernel
theorem dX1_isExtreme_9 : decode cX1_isExtreme 9 = .ok (.if_icmp .ge 46, 3) := by decide +kernel
theorem dX1_isExtreme_12 : decode cX1_isExtreme 12 = .ok (.aload_n 0, 1) := by decide +kernel
theorem dX1_isExtreme_13 : decode cX1_isExtreme 13 = .ok (.getfield 17, 3) := by decide +kernel
theorem dX1_isExtreme_16 : decode cX1_isExtreme 16 = .ok (.iload_n 3, 1) := by decide +kernel
theorem dX1_isExtreme_17 : decode cX1_isExtreme 17 = .ok (.iaload, 1) := by decide +kernel
theorem dX1_isExtreme_18 : decode cX1_isExtreme 18 = .ok (.iconst 1, 1) := by decide +kernel
theorem dX1_isExtreme_19 : decode cX1_isExtreme 19 = .ok (.if_icmp .ne 30, 3) := by decide +kernel
theorem dX1_isExtreme_22 : decode cX1_isExtreme 22 = .ok (.iload_n 2, 1) := by decide +kernel
theorem dX1_isExtreme_23 : decode cX1_isExtreme 23 = .ok (.ifCond .eq 15, 3) := by decide +kernel
theorem dX1_isExtreme_26 : decode cX1_isExtreme 26 = .ok (.aload_n 0, 1) := by decide +kernel
theorem dX1_isExtreme_27 : decode cX1_isExtreme 27 = .ok (.iload_n 1, 1) := by decide +kernel
theorem dX1_isExtreme_28 : decode cX1_isExtreme 28 = .ok (.iload_n 3, 1) := by decide +kernel
theorem dX1_isExtreme_29 : decode cX1_isExtreme 29 = .ok (.invokevirtual 46, 3) := by decide +kernel
theorem dX1_isExtreme_32 : decode cX1_isExtreme 32 = .ok (.ifCond .eq 15, 3) := by decide +kernel
theorem dX1_isExtreme_35 : decode cX1_isExtreme 35 = .ok (.goto 14, 3) := by decide +kernel
theorem dX1_isExtreme_38 : decode cX1_isExtreme 38 = .ok (.aload_n 0, 1) := by decide +kernel
theorem dX1_isExtreme_39 : decode cX1_isExtreme 39 = .ok (.iload_n 1, 1) := by decide +kernel
theorem dX1_isExtreme_40 : decode cX1_isExtreme 40 = .ok (.iload_n 3, 1) := by decide +kernel
theorem dX1_isExtreme_41 : decode cX1_isExtreme 41 = .ok (.invokevirtual 49, 3) := by decide +kernel
theorem dX1_isExtreme_44 : decode cX1_isExtreme 44 = .ok (.ifCond .ne 5, 3) := by decide +kernel
theorem dX1_isExtreme_47 : decode cX1_isExtreme 47 = .ok (.iconst 0, 1) := by decide +kernel
theorem dX1_isExtreme_48 : decode cX1_isExtreme 48 = .ok (.ireturn, 1) := by decide +kernel
theorem dX1_isExtreme_49 : decode cX1_isExtreme 49 = .ok (.iinc 3 1, 3) := by decide +kernel
theorem dX1_isExtreme_52 : decode cX1_isExtreme 52 = .ok (.goto (-50), 3) := by decide +kernel
theorem dX1_isExtreme_55 : decode cX1_isExtreme 55 = .ok (.iconst 1, 1) := by decide +kernel
theorem dX1_isExtreme_56 : decode cX1_isExtreme 56 = .ok (.ireturn, 1) := by decide +kernel
abbrev cX1_allBelow : ByteArray := prog_3_method_15_code
def yX1_allBelow : MethodName := ⟨RX1, "allBelow", "(II)Z"⟩
theorem dX1_allBelow_0 : decode cX1_allBelow 0 = .ok (.iconst 0, 1) := by decide +kernel
theorem dX1_allBelow_1 : decode cX1_allBelow 1 = .ok (.istore_n 3, 1) := by decide +kernel
theorem dX1_allBelow_2 : decode cX1_allBelow 2 = .ok (.iload_n 3, 1) := by decide +kernel
theorem dX1_allBelow_3 : decode cX1_allBelow 3 = .ok (.aload_n 0, 1) := by decide +kernel
theorem dX1_allBelow_4 : decode cX1_allBelow 4 = .ok (.getfield 7, 3) := by decide +kernel
theorem dX1_allBelow_7 : decode cX1_allBelow 7 = .ok (.if_icmp .ge 38, 3) := by decide +kernel
theorem dX1_allBelow_10 : decode cX1_allBelow 10 = .ok (.aload_n 0, 1) := by decide +kernel
theorem dX1_allBelow_11 : decode cX1_allBelow 11 = .ok (.iload_n 1, 1) := by decide +kernel
theorem dX1_allBelow_12 : decode cX1_allBelow 12 = .ok (.iload_n 3, 1) := by decide +kernel
theorem dX1_allBelow_13 : decode cX1_allBelow 13 = .ok (.invokevirtual 20, 3) := by decide +kernel
theorem dX1_allBelow_16 : decode cX1_allBelow 16 = .ok (.ifCond .eq 23, 3) := by decide +kernel
theorem dX1_allBelow_19 : decode cX1_allBelow 19 = .ok (.aload_n 0, 1) := by decide +kernel
theorem dX1_allBelow_20 : decode cX1_allBelow 20 = .ok (.iload_n 2, 1) := by decide +kernel
theorem dX1_allBelow_21 : decode cX1_allBelow 21 = .ok (.iload_n 3, 1) := by decide +kernel
theorem dX1_allBelow_22 : decode cX1_allBelow 22 = .ok (.invokevirtual 20, 3) := by decide +kernel
theorem dX1_allBelow_25 : decode cX1_allBelow 25 = .ok (.ifCond .ne 14, 3) := by decide +kernel
theorem dX1_allBelow_28 : decode cX1_allBelow 28 = .ok (.aload_n 0, 1) := by decide +kernel
theorem dX1_allBelow_29 : decode cX1_allBelow 29 = .ok (.iload_n 3, 1) := by decide +kernel
theorem dX1_allBelow_30 : decode cX1_allBelow 30 = .ok (.iload_n 2, 1) := by decide +kernel
theorem dX1_allBelow_31 : decode cX1_allBelow 31 = .ok (.invokevirtual 40, 3) := by decide +kernel
theorem dX1_allBelow_34 : decode cX1_allBelow 34 = .ok (.ifCond .ne 5, 3) := by decide +kernel
theorem dX1_allBelow_37 : decode cX1_allBelow 37 = .ok (.iconst 0, 1) := by decide +kernel
theorem dX1_allBelow_38 : decode cX1_allBelow 38 = .ok (.ireturn, 1) := by decide +kernel
theorem dX1_allBelow_39 : decode cX1_allBelow 39 = .ok (.iinc 3 1, 3) := by decide +kernel
theorem dX1_allBelow_42 : decode cX1_allBelow 42 = .ok (.goto (-40), 3) := by decide +kernel
theorem dX1_allBelow_45 : decode cX1_allBelow 45 = .ok (.iconst 1, 1) := by decide +kernel
theorem dX1_allBelow_46 : decode cX1_allBelow 46 = .ok (.ireturn, 1) := by decide +kernel
abbrev cX1_someAbove : ByteArray := prog_3_method_16_code
def yX1_someAbove : MethodName := ⟨RX1, "someAbove", "(II)Z"⟩
theorem dX1_someAbove_0 : decode cX1_someAbove 0 = .ok (.iconst 0, 1) := by decide +kernel
theorem dX1_someAbove_1 : decode cX1_someAbove 1 = .ok (.istore_n 3, 1) := by decide +kernel
theorem dX1_someAbove_2 : decode cX1_someAbove 2 = .ok (.iload_n 3, 1) := by decide +kernel
theorem dX1_someAbove_3 : decode cX1_someAbove 3 = .ok (.aload_n 0, 1) := by decide +kernel
theorem dX1_someAbove_4 : decode cX1_someAbove 4 = .ok (.getfield 7, 3) := by decide +kernel
theorem dX1_someAbove_7 : decode cX1_someAbove 7 = .ok (.if_icmp .ge 34, 3) := by decide +kernel
theorem dX1_someAbove_10 : decode cX1_someAbove 10 = .ok (.aload_n 0, 1) := by decide +kernel
theorem dX1_someAbove_11 : decode cX1_someAbove 11 = .ok (.iload_n 2, 1) := by decide +kernel
theorem dX1_someAbove_12 : decode cX1_someAbove 12 = .ok (.iload_n 3, 1) := by decide +kernel
theorem dX1_someAbove_13 : decode cX1_someAbove 13 = .ok (.invokevirtual 20, 3) := by decide +kernel
theorem dX1_someAbove_16 : decode cX1_someAbove 16 = .ok (.ifCond .eq 19, 3) := by decide +kernel
theorem dX1_someAbove_19 : decode cX1_someAbove 19 = .ok (.aload_n 0, 1) := by decide +kernel
theorem dX1_someAbove_20 : decode cX1_someAbove 20 = .ok (.aload_n 0, 1) := by decide +kernel
theorem dX1_someAbove_21 : decode cX1_someAbove 21 = .ok (.getfield 13, 3) := by decide +kernel
theorem dX1_someAbove_24 : decode cX1_someAbove 24 = .ok (.iload_n 3, 1) := by decide +kernel
theorem dX1_someAbove_25 : decode cX1_someAbove 25 = .ok (.iaload, 1) := by decide +kernel
theorem dX1_someAbove_26 : decode cX1_someAbove 26 = .ok (.iload_n 1, 1) := by decide +kernel
theorem dX1_someAbove_27 : decode cX1_someAbove 27 = .ok (.invokevirtual 20, 3) := by decide +kernel
theorem dX1_someAbove_30 : decode cX1_someAbove 30 = .ok (.ifCond .eq 5, 3) := by decide +kernel
theorem dX1_someAbove_33 : decode cX1_someAbove 33 = .ok (.iconst 1, 1) := by decide +kernel
theorem dX1_someAbove_34 : decode cX1_someAbove 34 = .ok (.ireturn, 1) := by decide +kernel
theorem dX1_someAbove_35 : decode cX1_someAbove 35 = .ok (.iinc 3 1, 3) := by decide +kernel
theorem dX1_someAbove_38 : decode cX1_someAbove 38 = .ok (.goto (-36), 3) := by decide +kernel
theorem dX1_someAbove_41 : decode cX1_someAbove 41 = .ok (.iconst 0, 1) := by decide +kernel
theorem dX1_someAbove_42 : decode cX1_someAbove 42 = .ok (.ireturn, 1) := by decide +kernel
abbrev cX1_allAbove : ByteArray := prog_3_method_17_code
def yX1_allAbove : MethodName := ⟨RX1, "allAbove", "(II)Z"⟩
theorem dX1_allAbove_0 : decode cX1_allAbove 0 = .ok (.iconst 0, 1) := by decide +kernel
theorem dX1_allAbove_1 : decode cX1_allAbove 1 = .ok (.istore_n 3, 1) := by decide +kernel
theorem dX1_allAbove_2 : decode cX1_allAbove 2 = .ok (.iload_n 3, 1) := by decide +kernel
theorem dX1_allAbove_3 : decode cX1_allAbove 3 = .ok (.aload_n 0, 1) := by decide +kernel
theorem dX1_allAbove_4 : decode cX1_allAbove 4 = .ok (.getfield 7, 3) := by decide +kernel
theorem dX1_allAbove_7 : decode cX1_allAbove 7 = .ok (.if_icmp .ge 40, 3) := by decide +kernel
theorem dX1_allAbove_10 : decode cX1_allAbove 10 = .ok (.aload_n 0, 1) := by decide +kernel
theorem dX1_allAbove_11 : decode cX1_allAbove 11 = .ok (.iload_n 1, 1) := by decide +kernel
theorem dX1_allAbove_12 : decode cX1_allAbove 12 = .ok (.iload_n 3, 1) := by decide +kernel
theorem dX1_allAbove_13 : decode cX1_allAbove 13 = .ok (.invokevirtual 20, 3) := by decide +kernel
theorem dX1_allAbove_16 : decode cX1_allAbove 16 = .ok (.ifCond .eq 25, 3) := by decide +kernel
theorem dX1_allAbove_19 : decode cX1_allAbove 19 = .ok (.aload_n 0, 1) := by decide +kernel
theorem dX1_allAbove_20 : decode cX1_allAbove 20 = .ok (.iload_n 2, 1) := by decide +kernel
theorem dX1_allAbove_21 : decode cX1_allAbove 21 = .ok (.iload_n 3, 1) := by decide +kernel
theorem dX1_allAbove_22 : decode cX1_allAbove 22 = .ok (.invokevirtual 20, 3) := by decide +kernel
theorem dX1_allAbove_25 : decode cX1_allAbove 25 = .ok (.ifCond .ne 16, 3) := by decide +kernel
theorem dX1_allAbove_28 : decode cX1_allAbove 28 = .ok (.aload_n 0, 1) := by decide +kernel
theorem dX1_allAbove_29 : decode cX1_allAbove 29 = .ok (.getfield 13, 3) := by decide +kernel
theorem dX1_allAbove_32 : decode cX1_allAbove 32 = .ok (.iload_n 3, 1) := by decide +kernel
theorem dX1_allAbove_33 : decode cX1_allAbove 33 = .ok (.iaload, 1) := by decide +kernel
theorem dX1_allAbove_34 : decode cX1_allAbove 34 = .ok (.iload_n 2, 1) := by decide +kernel
theorem dX1_allAbove_35 : decode cX1_allAbove 35 = .ok (.iand, 1) := by decide +kernel
theorem dX1_allAbove_36 : decode cX1_allAbove 36 = .ok (.ifCond .ne 5, 3) := by decide +kernel
theorem dX1_allAbove_39 : decode cX1_allAbove 39 = .ok (.iconst 0, 1) := by decide +kernel
theorem dX1_allAbove_40 : decode cX1_allAbove 40 = .ok (.ireturn, 1) := by decide +kernel
theorem dX1_allAbove_41 : decode cX1_allAbove 41 = .ok (.iinc 3 1, 3) := by decide +kernel
theorem dX1_allAbove_44 : decode cX1_allAbove 44 = .ok (.goto (-42), 3) := by decide +kernel
theorem dX1_allAbove_47 : decode cX1_allAbove 47 = .ok (.iconst 1, 1) := by decide +kernel
theorem dX1_allAbove_48 : decode cX1_allAbove 48 = .ok (.ireturn, 1) := by decide +kernel
abbrev cX1_highest : ByteArray := prog_3_method_22_code
def yX1_highest : MethodName := ⟨RX1, "highest", "()I"⟩
theorem dX1_highest_0 : decode cX1_highest 0 = .ok (.aload_n 0, 1) := by decide +kernel
theorem dX1_highest_1 : decode cX1_highest 1 = .ok (.iconst 0, 1) := by decide +kernel
theorem dX1_highest_2 : decode cX1_highest 2 = .ok (.invokevirtual 58, 3) := by decide +kernel
theorem dX1_highest_5 : decode cX1_highest 5 = .ok (.ireturn, 1) := by decide +kernel
abbrev cX1_isLargest : ByteArray := prog_3_method_23_code
def yX1_isLargest : MethodName := ⟨RX1, "isLargest", "(I)Z"⟩
theorem dX1_isLargest_0 : decode cX1_isLargest 0 = .ok (.aload_n 0, 1) := by decide +kernel
theorem dX1_isLargest_1 : decode cX1_isLargest 1 = .ok (.iload_n 1, 1) := by decide +kernel
theorem dX1_isLargest_2 : decode cX1_isLargest 2 = .ok (.invokevirtual 24, 3) := by decide +kernel
theorem dX1_isLargest_5 : decode cX1_isLargest 5 = .ok (.ifCond .eq 12, 3) := by decide +kernel
theorem dX1_isLargest_8 : decode cX1_isLargest 8 = .ok (.aload_n 0, 1) := by decide +kernel
theorem dX1_isLargest_9 : decode cX1_isLargest 9 = .ok (.iload_n 1, 1) := by decide +kernel
theorem dX1_isLargest_10 : decode cX1_isLargest 10 = .ok (.iconst 0, 1) := by decide +kernel
theorem dX1_isLargest_11 : decode cX1_isLargest 11 = .ok (.invokevirtual 32, 3) := by decide +kernel
theorem dX1_isLargest_14 : decode cX1_isLargest 14 = .ok (.ifCond .ne 5, 3) := by decide +kernel
theorem dX1_isLargest_17 : decode cX1_isLargest 17 = .ok (.iconst 0, 1) := by decide +kernel
theorem dX1_isLargest_18 : decode cX1_isLargest 18 = .ok (.ireturn, 1) := by decide +kernel
theorem dX1_isLargest_19 : decode cX1_isLargest 19 = .ok (.aload_n 0, 1) := by decide +kernel
theorem dX1_isLargest_20 : decode cX1_isLargest 20 = .ok (.iload_n 1, 1) := by decide +kernel
theorem dX1_isLargest_21 : decode cX1_isLargest 21 = .ok (.invokevirtual 28, 3) := by decide +kernel
theorem dX1_isLargest_24 : decode cX1_isLargest 24 = .ok (.istore_n 2, 1) := by decide +kernel
theorem dX1_isLargest_25 : decode cX1_isLargest 25 = .ok (.iload_n 2, 1) := by decide +kernel
theorem dX1_isLargest_26 : decode cX1_isLargest 26 = .ok (.aload_n 0, 1) := by decide +kernel
theorem dX1_isLargest_27 : decode cX1_isLargest 27 = .ok (.iconst 1, 1) := by decide +kernel
theorem dX1_isLargest_28 : decode cX1_isLargest 28 = .ok (.aload_n 0, 1) := by decide +kernel
theorem dX1_isLargest_29 : decode cX1_isLargest 29 = .ok (.getfield 7, 3) := by decide +kernel
theorem dX1_isLargest_32 : decode cX1_isLargest 32 = .ok (.ishl, 1) := by decide +kernel
theorem dX1_isLargest_33 : decode cX1_isLargest 33 = .ok (.iconst 1, 1) := by decide +kernel
theorem dX1_isLargest_34 : decode cX1_isLargest 34 = .ok (.isub, 1) := by decide +kernel
theorem dX1_isLargest_35 : decode cX1_isLargest 35 = .ok (.invokevirtual 43, 3) := by decide +kernel
theorem dX1_isLargest_38 : decode cX1_isLargest 38 = .ok (.if_icmp .ne 7, 3) := by decide +kernel
theorem dX1_isLargest_41 : decode cX1_isLargest 41 = .ok (.iconst 1, 1) := by decide +kernel
theorem dX1_isLargest_42 : decode cX1_isLargest 42 = .ok (.goto 4, 3) := by decide +kernel
theorem dX1_isLargest_45 : decode cX1_isLargest 45 = .ok (.iconst 0, 1) := by decide +kernel
theorem dX1_isLargest_46 : decode cX1_isLargest 46 = .ok (.ireturn, 1) := by decide +kernel
abbrev cX1_inSomeLargest : ByteArray := prog_3_method_24_code
def yX1_inSomeLargest : MethodName := ⟨RX1, "inSomeLargest", "(I)Z"⟩
theorem dX1_inSomeLargest_0 : decode cX1_inSomeLargest 0 = .ok (.iload_n 1, 1) := by decide +kernel
theorem dX1_inSomeLargest_1 : decode cX1_inSomeLargest 1 = .ok (.ifCond .lt 11, 3) := by decide +kernel
theorem dX1_inSomeLargest_4 : decode cX1_inSomeLargest 4 = .ok (.iload_n 1, 1) := by decide +kernel
theorem dX1_inSomeLargest_5 : decode cX1_inSomeLargest 5 = .ok (.aload_n 0, 1) := by decide +kernel
theorem dX1_inSomeLargest_6 : decode cX1_inSomeLargest 6 = .ok (.getfield 7, 3) := by decide +kernel
theorem dX1_inSomeLargest_9 : decode cX1_inSomeLargest 9 = .ok (.if_icmp .lt 5, 3) := by decide +kernel
theorem dX1_inSomeLargest_12 : decode cX1_inSomeLargest 12 = .ok (.iconst 0, 1) := by decide +kernel
theorem dX1_inSomeLargest_13 : decode cX1_inSomeLargest 13 = .ok (.ireturn, 1) := by decide +kernel
theorem dX1_inSomeLargest_14 : decode cX1_inSomeLargest 14 = .ok (.aload_n 0, 1) := by decide +kernel
theorem dX1_inSomeLargest_15 : decode cX1_inSomeLargest 15 = .ok (.invokevirtual 52, 3) := by decide +kernel
theorem dX1_inSomeLargest_18 : decode cX1_inSomeLargest 18 = .ok (.iconst 0, 1) := by decide +kernel
theorem dX1_inSomeLargest_19 : decode cX1_inSomeLargest 19 = .ok (.istore_n 2, 1) := by decide +kernel
theorem dX1_inSomeLargest_20 : decode cX1_inSomeLargest 20 = .ok (.iload_n 2, 1) := by decide +kernel
theorem dX1_inSomeLargest_21 : decode cX1_inSomeLargest 21 = .ok (.iconst 1, 1) := by decide +kernel
theorem dX1_inSomeLargest_22 : decode cX1_inSomeLargest 22 = .ok (.aload_n 0, 1) := by decide +kernel
theorem dX1_inSomeLargest_23 : decode cX1_inSomeLargest 23 = .ok (.getfield 7, 3) := by decide +kernel
theorem dX1_inSomeLargest_26 : decode cX1_inSomeLargest 26 = .ok (.ishl, 1) := by decide +kernel
theorem dX1_inSomeLargest_27 : decode cX1_inSomeLargest 27 = .ok (.if_icmp .ge 30, 3) := by decide +kernel
theorem dX1_inSomeLargest_30 : decode cX1_inSomeLargest 30 = .ok (.aload_n 0, 1) := by decide +kernel
theorem dX1_inSomeLargest_31 : decode cX1_inSomeLargest 31 = .ok (.getfield 17, 3) := by decide +kernel
theorem dX1_inSomeLargest_34 : decode cX1_inSomeLargest 34 = .ok (.iload_n 2, 1) := by decide +kernel
theorem dX1_inSomeLargest_35 : decode cX1_inSomeLargest 35 = .ok (.iaload, 1) := by decide +kernel
theorem dX1_inSomeLargest_36 : decode cX1_inSomeLargest 36 = .ok (.iconst 1, 1) := by decide +kernel
theorem dX1_inSomeLargest_37 : decode cX1_inSomeLargest 37 = .ok (.if_icmp .ne 14, 3) := by decide +kernel
theorem dX1_inSomeLargest_40 : decode cX1_inSomeLargest 40 = .ok (.aload_n 0, 1) := by decide +kernel
theorem dX1_inSomeLargest_41 : decode cX1_inSomeLargest 41 = .ok (.iload_n 2, 1) := by decide +kernel
theorem dX1_inSomeLargest_42 : decode cX1_inSomeLargest 42 = .ok (.iload_n 1, 1) := by decide +kernel
theorem dX1_inSomeLargest_43 : decode cX1_inSomeLargest 43 = .ok (.invokevirtual 20, 3) := by decide +kernel
theorem dX1_inSomeLargest_46 : decode cX1_inSomeLargest 46 = .ok (.ifCond .eq 5, 3) := by decide +kernel
theorem dX1_inSomeLargest_49 : decode cX1_inSomeLargest 49 = .ok (.iconst 1, 1) := by decide +kernel
theorem dX1_inSomeLargest_50 : decode cX1_inSomeLargest 50 = .ok (.ireturn, 1) := by decide +kernel
theorem dX1_inSomeLargest_51 : decode cX1_inSomeLargest 51 = .ok (.iinc 2 1, 3) := by decide +kernel
theorem dX1_inSomeLargest_54 : decode cX1_inSomeLargest 54 = .ok (.goto (-34), 3) := by decide +kernel
theorem dX1_inSomeLargest_57 : decode cX1_inSomeLargest 57 = .ok (.iconst 0, 1) := by decide +kernel
theorem dX1_inSomeLargest_58 : decode cX1_inSomeLargest 58 = .ok (.ireturn, 1) := by decide +kernel
end
section
set_option maxRecDepth 100000
/-! java/lang/Object -/
def RJ0 : String := "java/lang/Object"
abbrev cJ0_init : ByteArray := object_method_1_code
def yJ0_init : MethodName := ⟨RJ0, "<init>", "()V"⟩
theorem dJ0_init_0 : decode cJ0_init 0 = .ok (.return_, 1) := by decide +kernel
theorem q34 : (Jvm.Cond.instanceMethod ({ cls := "java/lang/Object", name := "<init>", desc := "()V" } : Jvm.MethodName)) ∈ lw_all := lw_g (lw_at lw_m1 9 rfl) rfl
theorem q35 : (Jvm.Cond.code ({ cls := "java/lang/Object", name := "<init>", desc := "()V" } : Jvm.MethodName) object_method_1_code (1 : Nat) (Option.none : Option Jvm.ClassFile.FieldType)) ∈ lw_all := lw_g (lw_at lw_m1 10 rfl) rfl

theorem q26 : (Jvm.Cond.initialized "ChainCover") ∈ lw_all := lw_g (lw_at lw_m1 1 rfl) rfl
theorem q29 : (Jvm.Cond.instantiable "ChainCover" (11 : Nat)) ∈ lw_all := lw_g (lw_at lw_m1 4 rfl) rfl
theorem q31 : (Jvm.Cond.instanceMethod ({ cls := "ChainCover", name := "<init>", desc := "()V" } : Jvm.MethodName)) ∈ lw_all := lw_g (lw_at lw_m1 6 rfl) rfl
theorem q32 : (Jvm.Cond.code ({ cls := "ChainCover", name := "<init>", desc := "()V" } : Jvm.MethodName) prog_1_method_1_code (1 : Nat) (Option.none : Option Jvm.ClassFile.FieldType)) ∈ lw_all := lw_g (lw_at lw_m1 7 rfl) rfl
theorem q33 : (Jvm.Cond.methodLink "ChainCover" (1 : Nat) ({ cls := "java/lang/Object", name := "<init>", desc := "()V" } : Jvm.MethodName)) ∈ lw_all := lw_g (lw_at lw_m1 8 rfl) rfl
theorem q36 : (Jvm.Cond.fieldLink "ChainCover" (42 : Nat) "ChainCover" "elementCount" "I") ∈ lw_all := lw_g (lw_at lw_m1 11 rfl) rfl
theorem q37 : (Jvm.Cond.fieldLink "ChainCover" (7 : Nat) "ChainCover" "under" "[I") ∈ lw_all := lw_g (lw_at lw_m1 12 rfl) rfl
theorem q38 : (Jvm.Cond.fieldLink "ChainCover" (13 : Nat) "ChainCover" "over" "[I") ∈ lw_all := lw_g (lw_at lw_m1 13 rfl) rfl
theorem q39 : (Jvm.Cond.fieldLink "ChainCover" (38 : Nat) "ChainCover" "allMatched" "Z") ∈ lw_all := lw_g (lw_at lw_m1 14 rfl) rfl
theorem q40 : (Jvm.Cond.fieldLink "ChainCover" (16 : Nat) "ChainCover" "keptUp" "[B") ∈ lw_all := lw_g (lw_at lw_m1 15 rfl) rfl
theorem q41 : (Jvm.Cond.fieldLink "ChainCover" (20 : Nat) "ChainCover" "keptDown" "[B") ∈ lw_all := lw_g (lw_at lw_m1 16 rfl) rfl
theorem q42 : (Jvm.Cond.fieldLink "ChainCover" (23 : Nat) "ChainCover" "up" "[B") ∈ lw_all := lw_g (lw_at lw_m1 17 rfl) rfl
theorem q43 : (Jvm.Cond.fieldLink "ChainCover" (26 : Nat) "ChainCover" "down" "[B") ∈ lw_all := lw_g (lw_at lw_m1 18 rfl) rfl
theorem q44 : (Jvm.Cond.fieldLink "ChainCover" (29 : Nat) "ChainCover" "queue" "[B") ∈ lw_all := lw_g (lw_at lw_m1 19 rfl) rfl
theorem q45 : (Jvm.Cond.fieldLink "ChainCover" (32 : Nat) "ChainCover" "cameFrom" "[B") ∈ lw_all := lw_g (lw_at lw_m1 20 rfl) rfl
theorem q46 : (Jvm.Cond.fieldLink "ChainCover" (35 : Nat) "ChainCover" "chainLength" "[B") ∈ lw_all := lw_g (lw_at lw_m1 21 rfl) rfl
theorem q47 : (Jvm.Cond.lays "ChainCover" "ChainCover" "elementCount" "I") ∈ lw_all := lw_g (lw_at lw_m1 22 rfl) rfl
theorem q48 : (Jvm.Cond.soleField "ChainCover" "elementCount") ∈ lw_all := lw_g (lw_at lw_m1 23 rfl) rfl
theorem q49 : (Jvm.Cond.laysFinal "ChainCover" "ChainCover" "under" "[I") ∈ lw_all := lw_g (lw_at lw_m1 24 rfl) rfl
theorem q50 : (Jvm.Cond.soleField "ChainCover" "under") ∈ lw_all := lw_g (lw_at lw_m1 25 rfl) rfl
theorem q51 : (Jvm.Cond.laysFinal "ChainCover" "ChainCover" "over" "[I") ∈ lw_all := lw_g (lw_at lw_m1 26 rfl) rfl
theorem q52 : (Jvm.Cond.soleField "ChainCover" "over") ∈ lw_all := lw_g (lw_at lw_m1 27 rfl) rfl
theorem q53 : (Jvm.Cond.lays "ChainCover" "ChainCover" "allMatched" "Z") ∈ lw_all := lw_g (lw_at lw_m1 28 rfl) rfl
theorem q54 : (Jvm.Cond.soleField "ChainCover" "allMatched") ∈ lw_all := lw_g (lw_at lw_m1 29 rfl) rfl
theorem q55 : (Jvm.Cond.laysFinal "ChainCover" "ChainCover" "keptUp" "[B") ∈ lw_all := lw_g (lw_at lw_m1 30 rfl) rfl
theorem q56 : (Jvm.Cond.soleField "ChainCover" "keptUp") ∈ lw_all := lw_g (lw_at lw_m1 31 rfl) rfl
theorem q57 : (Jvm.Cond.laysFinal "ChainCover" "ChainCover" "keptDown" "[B") ∈ lw_all := lw_g (lw_at lw_m1 32 rfl) rfl
theorem q58 : (Jvm.Cond.soleField "ChainCover" "keptDown") ∈ lw_all := lw_g (lw_at lw_m1 33 rfl) rfl
theorem q59 : (Jvm.Cond.laysFinal "ChainCover" "ChainCover" "up" "[B") ∈ lw_all := lw_g (lw_at lw_m1 34 rfl) rfl
theorem q60 : (Jvm.Cond.soleField "ChainCover" "up") ∈ lw_all := lw_g (lw_at lw_m1 35 rfl) rfl
theorem q61 : (Jvm.Cond.laysFinal "ChainCover" "ChainCover" "down" "[B") ∈ lw_all := lw_g (lw_at lw_m1 36 rfl) rfl
theorem q62 : (Jvm.Cond.soleField "ChainCover" "down") ∈ lw_all := lw_g (lw_at lw_m1 37 rfl) rfl
theorem q63 : (Jvm.Cond.laysFinal "ChainCover" "ChainCover" "queue" "[B") ∈ lw_all := lw_g (lw_at lw_m1 38 rfl) rfl
theorem q64 : (Jvm.Cond.soleField "ChainCover" "queue") ∈ lw_all := lw_g (lw_at lw_m1 39 rfl) rfl
theorem q65 : (Jvm.Cond.laysFinal "ChainCover" "ChainCover" "cameFrom" "[B") ∈ lw_all := lw_g (lw_at lw_m1 40 rfl) rfl
theorem q66 : (Jvm.Cond.soleField "ChainCover" "cameFrom") ∈ lw_all := lw_g (lw_at lw_m1 41 rfl) rfl
theorem q67 : (Jvm.Cond.laysFinal "ChainCover" "ChainCover" "chainLength" "[B") ∈ lw_all := lw_g (lw_at lw_m1 42 rfl) rfl
theorem q68 : (Jvm.Cond.soleField "ChainCover" "chainLength") ∈ lw_all := lw_g (lw_at lw_m1 43 rfl) rfl
theorem q69 : (Jvm.Cond.superclass "ChainCover" "java/lang/Object") ∈ lw_all := lw_g (lw_at lw_m1 44 rfl) rfl
theorem q73 : (Jvm.Cond.instanceMethod ({ cls := "ChainCover", name := "add", desc := "(I)I" } : Jvm.MethodName)) ∈ lw_all := lw_g (lw_at lw_m1 48 rfl) rfl
theorem q74 : (Jvm.Cond.selects "ChainCover" ({ cls := "ChainCover", name := "add", desc := "(I)I" } : Jvm.MethodName) ({ cls := "ChainCover", name := "add", desc := "(I)I" } : Jvm.MethodName)) ∈ lw_all := lw_g (lw_at lw_m1 49 rfl) rfl
theorem q75 : (Jvm.Cond.code ({ cls := "ChainCover", name := "add", desc := "(I)I" } : Jvm.MethodName) prog_1_method_2_code (5 : Nat) (Option.some Jvm.ClassFile.FieldType.int)) ∈ lw_all := lw_g (lw_at lw_m1 50 rfl) rfl
theorem q76 : (Jvm.Cond.methodLink "ChainCover" (46 : Nat) ({ cls := "ChainCover", name := "isSet", desc := "(I)Z" } : Jvm.MethodName)) ∈ lw_all := lw_g (lw_at lw_m1 51 rfl) rfl
theorem q77 : (Jvm.Cond.privateMethod ({ cls := "ChainCover", name := "isSet", desc := "(I)Z" } : Jvm.MethodName)) ∈ lw_tbl := lw_at lw_m1 52 rfl
theorem q78 : (Jvm.Cond.instanceMethod ({ cls := "ChainCover", name := "isSet", desc := "(I)Z" } : Jvm.MethodName)) ∈ lw_all := lw_g (lw_at lw_m1 53 rfl) rfl
theorem q79 : (Jvm.Cond.code ({ cls := "ChainCover", name := "isSet", desc := "(I)Z" } : Jvm.MethodName) prog_1_method_19_code (2 : Nat) (Option.some Jvm.ClassFile.FieldType.boolean)) ∈ lw_all := lw_g (lw_at lw_m1 54 rfl) rfl
theorem q80 : (Jvm.Cond.methodLink "ChainCover" (50 : Nat) ({ cls := "ChainCover", name := "matchOneMore", desc := "()V" } : Jvm.MethodName)) ∈ lw_all := lw_g (lw_at lw_m1 55 rfl) rfl
theorem q81 : (Jvm.Cond.privateMethod ({ cls := "ChainCover", name := "matchOneMore", desc := "()V" } : Jvm.MethodName)) ∈ lw_tbl := lw_at lw_m1 56 rfl
theorem q82 : (Jvm.Cond.instanceMethod ({ cls := "ChainCover", name := "matchOneMore", desc := "()V" } : Jvm.MethodName)) ∈ lw_all := lw_g (lw_at lw_m1 57 rfl) rfl
theorem q83 : (Jvm.Cond.code ({ cls := "ChainCover", name := "matchOneMore", desc := "()V" } : Jvm.MethodName) prog_1_method_3_code (4 : Nat) (Option.none : Option Jvm.ClassFile.FieldType)) ∈ lw_all := lw_g (lw_at lw_m1 58 rfl) rfl
theorem q84 : (Jvm.Cond.methodLink "ChainCover" (53 : Nat) ({ cls := "ChainCover", name := "loadKept", desc := "()V" } : Jvm.MethodName)) ∈ lw_all := lw_g (lw_at lw_m1 59 rfl) rfl
theorem q85 : (Jvm.Cond.privateMethod ({ cls := "ChainCover", name := "loadKept", desc := "()V" } : Jvm.MethodName)) ∈ lw_tbl := lw_at lw_m1 60 rfl
theorem q86 : (Jvm.Cond.instanceMethod ({ cls := "ChainCover", name := "loadKept", desc := "()V" } : Jvm.MethodName)) ∈ lw_all := lw_g (lw_at lw_m1 61 rfl) rfl
theorem q87 : (Jvm.Cond.code ({ cls := "ChainCover", name := "loadKept", desc := "()V" } : Jvm.MethodName) prog_1_method_21_code (2 : Nat) (Option.none : Option Jvm.ClassFile.FieldType)) ∈ lw_all := lw_g (lw_at lw_m1 62 rfl) rfl
theorem q88 : (Jvm.Cond.methodLink "ChainCover" (56 : Nat) ({ cls := "ChainCover", name := "augment", desc := "(II)Z" } : Jvm.MethodName)) ∈ lw_all := lw_g (lw_at lw_m1 63 rfl) rfl
theorem q89 : (Jvm.Cond.privateMethod ({ cls := "ChainCover", name := "augment", desc := "(II)Z" } : Jvm.MethodName)) ∈ lw_tbl := lw_at lw_m1 64 rfl
theorem q90 : (Jvm.Cond.instanceMethod ({ cls := "ChainCover", name := "augment", desc := "(II)Z" } : Jvm.MethodName)) ∈ lw_all := lw_g (lw_at lw_m1 65 rfl) rfl
theorem q91 : (Jvm.Cond.code ({ cls := "ChainCover", name := "augment", desc := "(II)Z" } : Jvm.MethodName) prog_1_method_26_code (8 : Nat) (Option.some Jvm.ClassFile.FieldType.boolean)) ∈ lw_all := lw_g (lw_at lw_m1 66 rfl) rfl
theorem q92 : (Jvm.Cond.methodLink "ChainCover" (94 : Nat) ({ cls := "ChainCover", name := "turnPath", desc := "(II)V" } : Jvm.MethodName)) ∈ lw_all := lw_g (lw_at lw_m1 67 rfl) rfl
theorem q93 : (Jvm.Cond.privateMethod ({ cls := "ChainCover", name := "turnPath", desc := "(II)V" } : Jvm.MethodName)) ∈ lw_tbl := lw_at lw_m1 68 rfl
theorem q94 : (Jvm.Cond.instanceMethod ({ cls := "ChainCover", name := "turnPath", desc := "(II)V" } : Jvm.MethodName)) ∈ lw_all := lw_g (lw_at lw_m1 69 rfl) rfl
theorem q95 : (Jvm.Cond.code ({ cls := "ChainCover", name := "turnPath", desc := "(II)V" } : Jvm.MethodName) prog_1_method_27_code (7 : Nat) (Option.none : Option Jvm.ClassFile.FieldType)) ∈ lw_all := lw_g (lw_at lw_m1 70 rfl) rfl
theorem q96 : (Jvm.Cond.methodLink "ChainCover" (60 : Nat) ({ cls := "ChainCover", name := "storeKept", desc := "()V" } : Jvm.MethodName)) ∈ lw_all := lw_g (lw_at lw_m1 71 rfl) rfl
theorem q97 : (Jvm.Cond.privateMethod ({ cls := "ChainCover", name := "storeKept", desc := "()V" } : Jvm.MethodName)) ∈ lw_tbl := lw_at lw_m1 72 rfl
theorem q98 : (Jvm.Cond.instanceMethod ({ cls := "ChainCover", name := "storeKept", desc := "()V" } : Jvm.MethodName)) ∈ lw_all := lw_g (lw_at lw_m1 73 rfl) rfl
theorem q99 : (Jvm.Cond.code ({ cls := "ChainCover", name := "storeKept", desc := "()V" } : Jvm.MethodName) prog_1_method_22_code (2 : Nat) (Option.none : Option Jvm.ClassFile.FieldType)) ∈ lw_all := lw_g (lw_at lw_m1 74 rfl) rfl
theorem q101 : (Jvm.Cond.instanceMethod ({ cls := "ChainCover", name := "removeLast", desc := "()I" } : Jvm.MethodName)) ∈ lw_all := lw_g (lw_at lw_m1 76 rfl) rfl
theorem q102 : (Jvm.Cond.selects "ChainCover" ({ cls := "ChainCover", name := "removeLast", desc := "()I" } : Jvm.MethodName) ({ cls := "ChainCover", name := "removeLast", desc := "()I" } : Jvm.MethodName)) ∈ lw_all := lw_g (lw_at lw_m1 77 rfl) rfl
theorem q103 : (Jvm.Cond.code ({ cls := "ChainCover", name := "removeLast", desc := "()I" } : Jvm.MethodName) prog_1_method_4_code (2 : Nat) (Option.some Jvm.ClassFile.FieldType.int)) ∈ lw_all := lw_g (lw_at lw_m1 78 rfl) rfl
theorem q105 : (Jvm.Cond.instanceMethod ({ cls := "ChainCover", name := "turn", desc := "()I" } : Jvm.MethodName)) ∈ lw_all := lw_g (lw_at lw_m1 80 rfl) rfl
theorem q106 : (Jvm.Cond.selects "ChainCover" ({ cls := "ChainCover", name := "turn", desc := "()I" } : Jvm.MethodName) ({ cls := "ChainCover", name := "turn", desc := "()I" } : Jvm.MethodName)) ∈ lw_all := lw_g (lw_at lw_m1 81 rfl) rfl
theorem q107 : (Jvm.Cond.code ({ cls := "ChainCover", name := "turn", desc := "()I" } : Jvm.MethodName) prog_1_method_5_code (4 : Nat) (Option.some Jvm.ClassFile.FieldType.int)) ∈ lw_all := lw_g (lw_at lw_m1 82 rfl) rfl
theorem q108 : (Jvm.Cond.methodLink "ChainCover" (63 : Nat) ({ cls := "ChainCover", name := "exchangeSets", desc := "(II)V" } : Jvm.MethodName)) ∈ lw_all := lw_g (lw_at lw_m1 83 rfl) rfl
theorem q109 : (Jvm.Cond.privateMethod ({ cls := "ChainCover", name := "exchangeSets", desc := "(II)V" } : Jvm.MethodName)) ∈ lw_tbl := lw_at lw_m1 84 rfl
theorem q110 : (Jvm.Cond.instanceMethod ({ cls := "ChainCover", name := "exchangeSets", desc := "(II)V" } : Jvm.MethodName)) ∈ lw_all := lw_g (lw_at lw_m1 85 rfl) rfl
theorem q111 : (Jvm.Cond.code ({ cls := "ChainCover", name := "exchangeSets", desc := "(II)V" } : Jvm.MethodName) prog_1_method_6_code (4 : Nat) (Option.none : Option Jvm.ClassFile.FieldType)) ∈ lw_all := lw_g (lw_at lw_m1 86 rfl) rfl
theorem q112 : (Jvm.Cond.methodLink "ChainCover" (67 : Nat) ({ cls := "ChainCover", name := "reversed", desc := "(II)I" } : Jvm.MethodName)) ∈ lw_all := lw_g (lw_at lw_m1 87 rfl) rfl
theorem q113 : (Jvm.Cond.privateMethod ({ cls := "ChainCover", name := "reversed", desc := "(II)I" } : Jvm.MethodName)) ∈ lw_tbl := lw_at lw_m1 88 rfl
theorem q114 : (Jvm.Cond.instanceMethod ({ cls := "ChainCover", name := "reversed", desc := "(II)I" } : Jvm.MethodName)) ∈ lw_all := lw_g (lw_at lw_m1 89 rfl) rfl
theorem q115 : (Jvm.Cond.code ({ cls := "ChainCover", name := "reversed", desc := "(II)I" } : Jvm.MethodName) prog_1_method_7_code (5 : Nat) (Option.some Jvm.ClassFile.FieldType.int)) ∈ lw_all := lw_g (lw_at lw_m1 90 rfl) rfl
theorem q117 : (Jvm.Cond.instanceMethod ({ cls := "ChainCover", name := "size", desc := "()I" } : Jvm.MethodName)) ∈ lw_all := lw_g (lw_at lw_m1 92 rfl) rfl
theorem q118 : (Jvm.Cond.selects "ChainCover" ({ cls := "ChainCover", name := "size", desc := "()I" } : Jvm.MethodName) ({ cls := "ChainCover", name := "size", desc := "()I" } : Jvm.MethodName)) ∈ lw_all := lw_g (lw_at lw_m1 93 rfl) rfl
theorem q119 : (Jvm.Cond.code ({ cls := "ChainCover", name := "size", desc := "()I" } : Jvm.MethodName) prog_1_method_8_code (1 : Nat) (Option.some Jvm.ClassFile.FieldType.int)) ∈ lw_all := lw_g (lw_at lw_m1 94 rfl) rfl
theorem q121 : (Jvm.Cond.instanceMethod ({ cls := "ChainCover", name := "below", desc := "(II)Z" } : Jvm.MethodName)) ∈ lw_all := lw_g (lw_at lw_m1 96 rfl) rfl
theorem q122 : (Jvm.Cond.selects "ChainCover" ({ cls := "ChainCover", name := "below", desc := "(II)Z" } : Jvm.MethodName) ({ cls := "ChainCover", name := "below", desc := "(II)Z" } : Jvm.MethodName)) ∈ lw_all := lw_g (lw_at lw_m1 97 rfl) rfl
theorem q123 : (Jvm.Cond.code ({ cls := "ChainCover", name := "below", desc := "(II)Z" } : Jvm.MethodName) prog_1_method_9_code (3 : Nat) (Option.some Jvm.ClassFile.FieldType.boolean)) ∈ lw_all := lw_g (lw_at lw_m1 98 rfl) rfl
theorem q124 : (Jvm.Cond.methodLink "ChainCover" (71 : Nat) ({ cls := "ChainCover", name := "isElement", desc := "(I)Z" } : Jvm.MethodName)) ∈ lw_all := lw_g (lw_at lw_m1 99 rfl) rfl
theorem q125 : (Jvm.Cond.privateMethod ({ cls := "ChainCover", name := "isElement", desc := "(I)Z" } : Jvm.MethodName)) ∈ lw_tbl := lw_at lw_m1 100 rfl
theorem q126 : (Jvm.Cond.instanceMethod ({ cls := "ChainCover", name := "isElement", desc := "(I)Z" } : Jvm.MethodName)) ∈ lw_all := lw_g (lw_at lw_m1 101 rfl) rfl
theorem q127 : (Jvm.Cond.code ({ cls := "ChainCover", name := "isElement", desc := "(I)Z" } : Jvm.MethodName) prog_1_method_18_code (2 : Nat) (Option.some Jvm.ClassFile.FieldType.boolean)) ∈ lw_all := lw_g (lw_at lw_m1 102 rfl) rfl
theorem q129 : (Jvm.Cond.instanceMethod ({ cls := "ChainCover", name := "width", desc := "(I)I" } : Jvm.MethodName)) ∈ lw_all := lw_g (lw_at lw_m1 104 rfl) rfl
theorem q130 : (Jvm.Cond.selects "ChainCover" ({ cls := "ChainCover", name := "width", desc := "(I)I" } : Jvm.MethodName) ({ cls := "ChainCover", name := "width", desc := "(I)I" } : Jvm.MethodName)) ∈ lw_all := lw_g (lw_at lw_m1 105 rfl) rfl
theorem q131 : (Jvm.Cond.code ({ cls := "ChainCover", name := "width", desc := "(I)I" } : Jvm.MethodName) prog_1_method_10_code (2 : Nat) (Option.some Jvm.ClassFile.FieldType.int)) ∈ lw_all := lw_g (lw_at lw_m1 106 rfl) rfl
theorem q132 : (Jvm.Cond.methodLink "ChainCover" (74 : Nat) ({ cls := "ChainCover", name := "bitsIn", desc := "(I)I" } : Jvm.MethodName)) ∈ lw_all := lw_g (lw_at lw_m1 107 rfl) rfl
theorem q133 : (Jvm.Cond.privateMethod ({ cls := "ChainCover", name := "bitsIn", desc := "(I)I" } : Jvm.MethodName)) ∈ lw_tbl := lw_at lw_m1 108 rfl
theorem q134 : (Jvm.Cond.instanceMethod ({ cls := "ChainCover", name := "bitsIn", desc := "(I)I" } : Jvm.MethodName)) ∈ lw_all := lw_g (lw_at lw_m1 109 rfl) rfl
theorem q135 : (Jvm.Cond.code ({ cls := "ChainCover", name := "bitsIn", desc := "(I)I" } : Jvm.MethodName) prog_1_method_20_code (4 : Nat) (Option.some Jvm.ClassFile.FieldType.int)) ∈ lw_all := lw_g (lw_at lw_m1 110 rfl) rfl
theorem q136 : (Jvm.Cond.methodLink "ChainCover" (78 : Nat) ({ cls := "ChainCover", name := "couplesWithin", desc := "(I)I" } : Jvm.MethodName)) ∈ lw_all := lw_g (lw_at lw_m1 111 rfl) rfl
theorem q137 : (Jvm.Cond.privateMethod ({ cls := "ChainCover", name := "couplesWithin", desc := "(I)I" } : Jvm.MethodName)) ∈ lw_tbl := lw_at lw_m1 112 rfl
theorem q138 : (Jvm.Cond.instanceMethod ({ cls := "ChainCover", name := "couplesWithin", desc := "(I)I" } : Jvm.MethodName)) ∈ lw_all := lw_g (lw_at lw_m1 113 rfl) rfl
theorem q139 : (Jvm.Cond.code ({ cls := "ChainCover", name := "couplesWithin", desc := "(I)I" } : Jvm.MethodName) prog_1_method_24_code (4 : Nat) (Option.some Jvm.ClassFile.FieldType.int)) ∈ lw_all := lw_g (lw_at lw_m1 114 rfl) rfl
theorem q140 : (Jvm.Cond.methodLink "ChainCover" (84 : Nat) ({ cls := "ChainCover", name := "matchAll", desc := "()V" } : Jvm.MethodName)) ∈ lw_all := lw_g (lw_at lw_m1 115 rfl) rfl
theorem q141 : (Jvm.Cond.privateMethod ({ cls := "ChainCover", name := "matchAll", desc := "()V" } : Jvm.MethodName)) ∈ lw_tbl := lw_at lw_m1 116 rfl
theorem q142 : (Jvm.Cond.instanceMethod ({ cls := "ChainCover", name := "matchAll", desc := "()V" } : Jvm.MethodName)) ∈ lw_all := lw_g (lw_at lw_m1 117 rfl) rfl
theorem q143 : (Jvm.Cond.code ({ cls := "ChainCover", name := "matchAll", desc := "()V" } : Jvm.MethodName) prog_1_method_23_code (1 : Nat) (Option.none : Option Jvm.ClassFile.FieldType)) ∈ lw_all := lw_g (lw_at lw_m1 118 rfl) rfl
theorem q144 : (Jvm.Cond.methodLink "ChainCover" (90 : Nat) ({ cls := "ChainCover", name := "pairUp", desc := "(I)V" } : Jvm.MethodName)) ∈ lw_all := lw_g (lw_at lw_m1 119 rfl) rfl
theorem q145 : (Jvm.Cond.privateMethod ({ cls := "ChainCover", name := "pairUp", desc := "(I)V" } : Jvm.MethodName)) ∈ lw_tbl := lw_at lw_m1 120 rfl
theorem q146 : (Jvm.Cond.instanceMethod ({ cls := "ChainCover", name := "pairUp", desc := "(I)V" } : Jvm.MethodName)) ∈ lw_all := lw_g (lw_at lw_m1 121 rfl) rfl
theorem q147 : (Jvm.Cond.code ({ cls := "ChainCover", name := "pairUp", desc := "(I)V" } : Jvm.MethodName) prog_1_method_25_code (3 : Nat) (Option.none : Option Jvm.ClassFile.FieldType)) ∈ lw_all := lw_g (lw_at lw_m1 122 rfl) rfl
theorem q149 : (Jvm.Cond.instanceMethod ({ cls := "ChainCover", name := "chains", desc := "(I)I" } : Jvm.MethodName)) ∈ lw_all := lw_g (lw_at lw_m1 124 rfl) rfl
theorem q150 : (Jvm.Cond.selects "ChainCover" ({ cls := "ChainCover", name := "chains", desc := "(I)I" } : Jvm.MethodName) ({ cls := "ChainCover", name := "chains", desc := "(I)I" } : Jvm.MethodName)) ∈ lw_all := lw_g (lw_at lw_m1 125 rfl) rfl
theorem q151 : (Jvm.Cond.code ({ cls := "ChainCover", name := "chains", desc := "(I)I" } : Jvm.MethodName) prog_1_method_11_code (4 : Nat) (Option.some Jvm.ClassFile.FieldType.int)) ∈ lw_all := lw_g (lw_at lw_m1 126 rfl) rfl
theorem q153 : (Jvm.Cond.instanceMethod ({ cls := "ChainCover", name := "longestChain", desc := "(I)I" } : Jvm.MethodName)) ∈ lw_all := lw_g (lw_at lw_m1 128 rfl) rfl
theorem q154 : (Jvm.Cond.selects "ChainCover" ({ cls := "ChainCover", name := "longestChain", desc := "(I)I" } : Jvm.MethodName) ({ cls := "ChainCover", name := "longestChain", desc := "(I)I" } : Jvm.MethodName)) ∈ lw_all := lw_g (lw_at lw_m1 129 rfl) rfl
theorem q155 : (Jvm.Cond.code ({ cls := "ChainCover", name := "longestChain", desc := "(I)I" } : Jvm.MethodName) prog_1_method_12_code (5 : Nat) (Option.some Jvm.ClassFile.FieldType.int)) ∈ lw_all := lw_g (lw_at lw_m1 130 rfl) rfl
theorem q156 : (Jvm.Cond.methodLink "ChainCover" (81 : Nat) ({ cls := "ChainCover", name := "longestUnder", desc := "(II)I" } : Jvm.MethodName)) ∈ lw_all := lw_g (lw_at lw_m1 131 rfl) rfl
theorem q157 : (Jvm.Cond.privateMethod ({ cls := "ChainCover", name := "longestUnder", desc := "(II)I" } : Jvm.MethodName)) ∈ lw_tbl := lw_at lw_m1 132 rfl
theorem q158 : (Jvm.Cond.instanceMethod ({ cls := "ChainCover", name := "longestUnder", desc := "(II)I" } : Jvm.MethodName)) ∈ lw_all := lw_g (lw_at lw_m1 133 rfl) rfl
theorem q159 : (Jvm.Cond.code ({ cls := "ChainCover", name := "longestUnder", desc := "(II)I" } : Jvm.MethodName) prog_1_method_13_code (5 : Nat) (Option.some Jvm.ClassFile.FieldType.int)) ∈ lw_all := lw_g (lw_at lw_m1 134 rfl) rfl
theorem q161 : (Jvm.Cond.instanceMethod ({ cls := "ChainCover", name := "lowest", desc := "()I" } : Jvm.MethodName)) ∈ lw_all := lw_g (lw_at lw_m1 136 rfl) rfl
theorem q162 : (Jvm.Cond.selects "ChainCover" ({ cls := "ChainCover", name := "lowest", desc := "()I" } : Jvm.MethodName) ({ cls := "ChainCover", name := "lowest", desc := "()I" } : Jvm.MethodName)) ∈ lw_all := lw_g (lw_at lw_m1 137 rfl) rfl
theorem q163 : (Jvm.Cond.code ({ cls := "ChainCover", name := "lowest", desc := "()I" } : Jvm.MethodName) prog_1_method_14_code (5 : Nat) (Option.some Jvm.ClassFile.FieldType.int)) ∈ lw_all := lw_g (lw_at lw_m1 138 rfl) rfl
theorem q165 : (Jvm.Cond.instanceMethod ({ cls := "ChainCover", name := "highest", desc := "()I" } : Jvm.MethodName)) ∈ lw_all := lw_g (lw_at lw_m1 140 rfl) rfl
theorem q166 : (Jvm.Cond.selects "ChainCover" ({ cls := "ChainCover", name := "highest", desc := "()I" } : Jvm.MethodName) ({ cls := "ChainCover", name := "highest", desc := "()I" } : Jvm.MethodName)) ∈ lw_all := lw_g (lw_at lw_m1 141 rfl) rfl
theorem q167 : (Jvm.Cond.code ({ cls := "ChainCover", name := "highest", desc := "()I" } : Jvm.MethodName) prog_1_method_15_code (5 : Nat) (Option.some Jvm.ClassFile.FieldType.int)) ∈ lw_all := lw_g (lw_at lw_m1 142 rfl) rfl
theorem q169 : (Jvm.Cond.instanceMethod ({ cls := "ChainCover", name := "isLargest", desc := "(I)Z" } : Jvm.MethodName)) ∈ lw_all := lw_g (lw_at lw_m1 144 rfl) rfl
theorem q170 : (Jvm.Cond.selects "ChainCover" ({ cls := "ChainCover", name := "isLargest", desc := "(I)Z" } : Jvm.MethodName) ({ cls := "ChainCover", name := "isLargest", desc := "(I)Z" } : Jvm.MethodName)) ∈ lw_all := lw_g (lw_at lw_m1 145 rfl) rfl
theorem q171 : (Jvm.Cond.code ({ cls := "ChainCover", name := "isLargest", desc := "(I)Z" } : Jvm.MethodName) prog_1_method_16_code (3 : Nat) (Option.some Jvm.ClassFile.FieldType.boolean)) ∈ lw_all := lw_g (lw_at lw_m1 146 rfl) rfl
theorem q172 : (Jvm.Cond.methodLink "ChainCover" (87 : Nat) ({ cls := "ChainCover", name := "width", desc := "(I)I" } : Jvm.MethodName)) ∈ lw_all := lw_g (lw_at lw_m1 147 rfl) rfl
theorem q174 : (Jvm.Cond.instanceMethod ({ cls := "ChainCover", name := "inSomeLargest", desc := "(I)Z" } : Jvm.MethodName)) ∈ lw_all := lw_g (lw_at lw_m1 149 rfl) rfl
theorem q175 : (Jvm.Cond.selects "ChainCover" ({ cls := "ChainCover", name := "inSomeLargest", desc := "(I)Z" } : Jvm.MethodName) ({ cls := "ChainCover", name := "inSomeLargest", desc := "(I)Z" } : Jvm.MethodName)) ∈ lw_all := lw_g (lw_at lw_m1 150 rfl) rfl
theorem q176 : (Jvm.Cond.code ({ cls := "ChainCover", name := "inSomeLargest", desc := "(I)Z" } : Jvm.MethodName) prog_1_method_17_code (5 : Nat) (Option.some Jvm.ClassFile.FieldType.boolean)) ∈ lw_all := lw_g (lw_at lw_m1 151 rfl) rfl
theorem in_X0 : ∀ w ∈ wsX00, w ∈ lw_all := lw_in wsX00 [47, 49, 51, 53, 55, 57, 59, 61, 63, 65, 67] (by decide +kernel) (by decide +kernel)

theorem q27 : (Jvm.Cond.initialized "ChainCoverModel") ∈ lw_all := lw_g (lw_at lw_m1 2 rfl) rfl
theorem q178 : (Jvm.Cond.instantiable "ChainCoverModel" (3 : Nat)) ∈ lw_all := lw_g (lw_at lw_m1 153 rfl) rfl
theorem q180 : (Jvm.Cond.instanceMethod ({ cls := "ChainCoverModel", name := "<init>", desc := "()V" } : Jvm.MethodName)) ∈ lw_all := lw_g (lw_at lw_m1 155 rfl) rfl
theorem q181 : (Jvm.Cond.code ({ cls := "ChainCoverModel", name := "<init>", desc := "()V" } : Jvm.MethodName) prog_3_method_1_code (1 : Nat) (Option.none : Option Jvm.ClassFile.FieldType)) ∈ lw_all := lw_g (lw_at lw_m1 156 rfl) rfl
theorem q182 : (Jvm.Cond.methodLink "ChainCoverModel" (1 : Nat) ({ cls := "java/lang/Object", name := "<init>", desc := "()V" } : Jvm.MethodName)) ∈ lw_all := lw_g (lw_at lw_m1 157 rfl) rfl
theorem q183 : (Jvm.Cond.fieldLink "ChainCoverModel" (7 : Nat) "ChainCoverModel" "n" "I") ∈ lw_all := lw_g (lw_at lw_m1 158 rfl) rfl
theorem q184 : (Jvm.Cond.fieldLink "ChainCoverModel" (13 : Nat) "ChainCoverModel" "under" "[I") ∈ lw_all := lw_g (lw_at lw_m1 159 rfl) rfl
theorem q185 : (Jvm.Cond.fieldLink "ChainCoverModel" (17 : Nat) "ChainCoverModel" "least" "[I") ∈ lw_all := lw_g (lw_at lw_m1 160 rfl) rfl
theorem q186 : (Jvm.Cond.lays "ChainCoverModel" "ChainCoverModel" "n" "I") ∈ lw_all := lw_g (lw_at lw_m1 161 rfl) rfl
theorem q187 : (Jvm.Cond.soleField "ChainCoverModel" "n") ∈ lw_all := lw_g (lw_at lw_m1 162 rfl) rfl
theorem q188 : (Jvm.Cond.lays "ChainCoverModel" "ChainCoverModel" "under" "[I") ∈ lw_all := lw_g (lw_at lw_m1 163 rfl) rfl
theorem q189 : (Jvm.Cond.soleField "ChainCoverModel" "under") ∈ lw_all := lw_g (lw_at lw_m1 164 rfl) rfl
theorem q190 : (Jvm.Cond.lays "ChainCoverModel" "ChainCoverModel" "least" "[I") ∈ lw_all := lw_g (lw_at lw_m1 165 rfl) rfl
theorem q191 : (Jvm.Cond.soleField "ChainCoverModel" "least") ∈ lw_all := lw_g (lw_at lw_m1 166 rfl) rfl
theorem q192 : (Jvm.Cond.superclass "ChainCoverModel" "java/lang/Object") ∈ lw_all := lw_g (lw_at lw_m1 167 rfl) rfl
theorem q194 : (Jvm.Cond.instanceMethod ({ cls := "ChainCoverModel", name := "add", desc := "(I)I" } : Jvm.MethodName)) ∈ lw_all := lw_g (lw_at lw_m1 169 rfl) rfl
theorem q195 : (Jvm.Cond.selects "ChainCoverModel" ({ cls := "ChainCoverModel", name := "add", desc := "(I)I" } : Jvm.MethodName) ({ cls := "ChainCoverModel", name := "add", desc := "(I)I" } : Jvm.MethodName)) ∈ lw_all := lw_g (lw_at lw_m1 170 rfl) rfl
theorem q196 : (Jvm.Cond.code ({ cls := "ChainCoverModel", name := "add", desc := "(I)I" } : Jvm.MethodName) prog_3_method_5_code (4 : Nat) (Option.some Jvm.ClassFile.FieldType.int)) ∈ lw_all := lw_g (lw_at lw_m1 171 rfl) rfl
theorem q197 : (Jvm.Cond.methodLink "ChainCoverModel" (24 : Nat) ({ cls := "ChainCoverModel", name := "isSet", desc := "(I)Z" } : Jvm.MethodName)) ∈ lw_all := lw_g (lw_at lw_m1 172 rfl) rfl
theorem q198 : (Jvm.Cond.privateMethod ({ cls := "ChainCoverModel", name := "isSet", desc := "(I)Z" } : Jvm.MethodName)) ∈ lw_tbl := lw_at lw_m1 173 rfl
theorem q199 : (Jvm.Cond.instanceMethod ({ cls := "ChainCoverModel", name := "isSet", desc := "(I)Z" } : Jvm.MethodName)) ∈ lw_all := lw_g (lw_at lw_m1 174 rfl) rfl
theorem q200 : (Jvm.Cond.code ({ cls := "ChainCoverModel", name := "isSet", desc := "(I)Z" } : Jvm.MethodName) prog_3_method_3_code (2 : Nat) (Option.some Jvm.ClassFile.FieldType.boolean)) ∈ lw_all := lw_g (lw_at lw_m1 175 rfl) rfl
theorem q201 : (Jvm.Cond.methodLink "ChainCoverModel" (20 : Nat) ({ cls := "ChainCoverModel", name := "in", desc := "(II)Z" } : Jvm.MethodName)) ∈ lw_all := lw_g (lw_at lw_m1 176 rfl) rfl
theorem q202 : (Jvm.Cond.privateMethod ({ cls := "ChainCoverModel", name := "in", desc := "(II)Z" } : Jvm.MethodName)) ∈ lw_tbl := lw_at lw_m1 177 rfl
theorem q203 : (Jvm.Cond.instanceMethod ({ cls := "ChainCoverModel", name := "in", desc := "(II)Z" } : Jvm.MethodName)) ∈ lw_all := lw_g (lw_at lw_m1 178 rfl) rfl
theorem q204 : (Jvm.Cond.code ({ cls := "ChainCoverModel", name := "in", desc := "(II)Z" } : Jvm.MethodName) prog_3_method_2_code (3 : Nat) (Option.some Jvm.ClassFile.FieldType.boolean)) ∈ lw_all := lw_g (lw_at lw_m1 179 rfl) rfl
theorem q206 : (Jvm.Cond.instanceMethod ({ cls := "ChainCoverModel", name := "removeLast", desc := "()I" } : Jvm.MethodName)) ∈ lw_all := lw_g (lw_at lw_m1 181 rfl) rfl
theorem q207 : (Jvm.Cond.selects "ChainCoverModel" ({ cls := "ChainCoverModel", name := "removeLast", desc := "()I" } : Jvm.MethodName) ({ cls := "ChainCoverModel", name := "removeLast", desc := "()I" } : Jvm.MethodName)) ∈ lw_all := lw_g (lw_at lw_m1 182 rfl) rfl
theorem q208 : (Jvm.Cond.code ({ cls := "ChainCoverModel", name := "removeLast", desc := "()I" } : Jvm.MethodName) prog_3_method_6_code (1 : Nat) (Option.some Jvm.ClassFile.FieldType.int)) ∈ lw_all := lw_g (lw_at lw_m1 183 rfl) rfl
theorem q210 : (Jvm.Cond.instanceMethod ({ cls := "ChainCoverModel", name := "turn", desc := "()I" } : Jvm.MethodName)) ∈ lw_all := lw_g (lw_at lw_m1 185 rfl) rfl
theorem q211 : (Jvm.Cond.selects "ChainCoverModel" ({ cls := "ChainCoverModel", name := "turn", desc := "()I" } : Jvm.MethodName) ({ cls := "ChainCoverModel", name := "turn", desc := "()I" } : Jvm.MethodName)) ∈ lw_all := lw_g (lw_at lw_m1 186 rfl) rfl
theorem q212 : (Jvm.Cond.code ({ cls := "ChainCoverModel", name := "turn", desc := "()I" } : Jvm.MethodName) prog_3_method_7_code (3 : Nat) (Option.some Jvm.ClassFile.FieldType.int)) ∈ lw_all := lw_g (lw_at lw_m1 187 rfl) rfl
theorem q214 : (Jvm.Cond.instanceMethod ({ cls := "ChainCoverModel", name := "size", desc := "()I" } : Jvm.MethodName)) ∈ lw_all := lw_g (lw_at lw_m1 189 rfl) rfl
theorem q215 : (Jvm.Cond.selects "ChainCoverModel" ({ cls := "ChainCoverModel", name := "size", desc := "()I" } : Jvm.MethodName) ({ cls := "ChainCoverModel", name := "size", desc := "()I" } : Jvm.MethodName)) ∈ lw_all := lw_g (lw_at lw_m1 190 rfl) rfl
theorem q216 : (Jvm.Cond.code ({ cls := "ChainCoverModel", name := "size", desc := "()I" } : Jvm.MethodName) prog_3_method_8_code (1 : Nat) (Option.some Jvm.ClassFile.FieldType.int)) ∈ lw_all := lw_g (lw_at lw_m1 191 rfl) rfl
theorem q218 : (Jvm.Cond.instanceMethod ({ cls := "ChainCoverModel", name := "below", desc := "(II)Z" } : Jvm.MethodName)) ∈ lw_all := lw_g (lw_at lw_m1 193 rfl) rfl
theorem q219 : (Jvm.Cond.selects "ChainCoverModel" ({ cls := "ChainCoverModel", name := "below", desc := "(II)Z" } : Jvm.MethodName) ({ cls := "ChainCoverModel", name := "below", desc := "(II)Z" } : Jvm.MethodName)) ∈ lw_all := lw_g (lw_at lw_m1 194 rfl) rfl
theorem q220 : (Jvm.Cond.code ({ cls := "ChainCoverModel", name := "below", desc := "(II)Z" } : Jvm.MethodName) prog_3_method_9_code (3 : Nat) (Option.some Jvm.ClassFile.FieldType.boolean)) ∈ lw_all := lw_g (lw_at lw_m1 195 rfl) rfl
theorem q222 : (Jvm.Cond.instanceMethod ({ cls := "ChainCoverModel", name := "width", desc := "(I)I" } : Jvm.MethodName)) ∈ lw_all := lw_g (lw_at lw_m1 197 rfl) rfl
theorem q223 : (Jvm.Cond.selects "ChainCoverModel" ({ cls := "ChainCoverModel", name := "width", desc := "(I)I" } : Jvm.MethodName) ({ cls := "ChainCoverModel", name := "width", desc := "(I)I" } : Jvm.MethodName)) ∈ lw_all := lw_g (lw_at lw_m1 198 rfl) rfl
theorem q224 : (Jvm.Cond.code ({ cls := "ChainCoverModel", name := "width", desc := "(I)I" } : Jvm.MethodName) prog_3_method_12_code (2 : Nat) (Option.some Jvm.ClassFile.FieldType.int)) ∈ lw_all := lw_g (lw_at lw_m1 199 rfl) rfl
theorem q225 : (Jvm.Cond.methodLink "ChainCoverModel" (36 : Nat) ({ cls := "ChainCoverModel", name := "largest", desc := "(IZ)I" } : Jvm.MethodName)) ∈ lw_all := lw_g (lw_at lw_m1 200 rfl) rfl
theorem q226 : (Jvm.Cond.privateMethod ({ cls := "ChainCoverModel", name := "largest", desc := "(IZ)I" } : Jvm.MethodName)) ∈ lw_tbl := lw_at lw_m1 201 rfl
theorem q227 : (Jvm.Cond.instanceMethod ({ cls := "ChainCoverModel", name := "largest", desc := "(IZ)I" } : Jvm.MethodName)) ∈ lw_all := lw_g (lw_at lw_m1 202 rfl) rfl
theorem q228 : (Jvm.Cond.code ({ cls := "ChainCoverModel", name := "largest", desc := "(IZ)I" } : Jvm.MethodName) prog_3_method_11_code (6 : Nat) (Option.some Jvm.ClassFile.FieldType.int)) ∈ lw_all := lw_g (lw_at lw_m1 203 rfl) rfl
theorem q229 : (Jvm.Cond.methodLink "ChainCoverModel" (28 : Nat) ({ cls := "ChainCoverModel", name := "sizeOf", desc := "(I)I" } : Jvm.MethodName)) ∈ lw_all := lw_g (lw_at lw_m1 204 rfl) rfl
theorem q230 : (Jvm.Cond.privateMethod ({ cls := "ChainCoverModel", name := "sizeOf", desc := "(I)I" } : Jvm.MethodName)) ∈ lw_tbl := lw_at lw_m1 205 rfl
theorem q231 : (Jvm.Cond.instanceMethod ({ cls := "ChainCoverModel", name := "sizeOf", desc := "(I)I" } : Jvm.MethodName)) ∈ lw_all := lw_g (lw_at lw_m1 206 rfl) rfl
theorem q232 : (Jvm.Cond.code ({ cls := "ChainCoverModel", name := "sizeOf", desc := "(I)I" } : Jvm.MethodName) prog_3_method_4_code (4 : Nat) (Option.some Jvm.ClassFile.FieldType.int)) ∈ lw_all := lw_g (lw_at lw_m1 207 rfl) rfl
theorem q233 : (Jvm.Cond.methodLink "ChainCoverModel" (32 : Nat) ({ cls := "ChainCoverModel", name := "uniform", desc := "(IZ)Z" } : Jvm.MethodName)) ∈ lw_all := lw_g (lw_at lw_m1 208 rfl) rfl
theorem q234 : (Jvm.Cond.privateMethod ({ cls := "ChainCoverModel", name := "uniform", desc := "(IZ)Z" } : Jvm.MethodName)) ∈ lw_tbl := lw_at lw_m1 209 rfl
theorem q235 : (Jvm.Cond.instanceMethod ({ cls := "ChainCoverModel", name := "uniform", desc := "(IZ)Z" } : Jvm.MethodName)) ∈ lw_all := lw_g (lw_at lw_m1 210 rfl) rfl
theorem q236 : (Jvm.Cond.code ({ cls := "ChainCoverModel", name := "uniform", desc := "(IZ)Z" } : Jvm.MethodName) prog_3_method_10_code (6 : Nat) (Option.some Jvm.ClassFile.FieldType.boolean)) ∈ lw_all := lw_g (lw_at lw_m1 211 rfl) rfl
theorem q238 : (Jvm.Cond.instanceMethod ({ cls := "ChainCoverModel", name := "chains", desc := "(I)I" } : Jvm.MethodName)) ∈ lw_all := lw_g (lw_at lw_m1 213 rfl) rfl
theorem q239 : (Jvm.Cond.selects "ChainCoverModel" ({ cls := "ChainCoverModel", name := "chains", desc := "(I)I" } : Jvm.MethodName) ({ cls := "ChainCoverModel", name := "chains", desc := "(I)I" } : Jvm.MethodName)) ∈ lw_all := lw_g (lw_at lw_m1 214 rfl) rfl
theorem q240 : (Jvm.Cond.code ({ cls := "ChainCoverModel", name := "chains", desc := "(I)I" } : Jvm.MethodName) prog_3_method_13_code (5 : Nat) (Option.some Jvm.ClassFile.FieldType.int)) ∈ lw_all := lw_g (lw_at lw_m1 215 rfl) rfl
theorem q242 : (Jvm.Cond.instanceMethod ({ cls := "ChainCoverModel", name := "longestChain", desc := "(I)I" } : Jvm.MethodName)) ∈ lw_all := lw_g (lw_at lw_m1 217 rfl) rfl
theorem q243 : (Jvm.Cond.selects "ChainCoverModel" ({ cls := "ChainCoverModel", name := "longestChain", desc := "(I)I" } : Jvm.MethodName) ({ cls := "ChainCoverModel", name := "longestChain", desc := "(I)I" } : Jvm.MethodName)) ∈ lw_all := lw_g (lw_at lw_m1 218 rfl) rfl
theorem q244 : (Jvm.Cond.code ({ cls := "ChainCoverModel", name := "longestChain", desc := "(I)I" } : Jvm.MethodName) prog_3_method_14_code (2 : Nat) (Option.some Jvm.ClassFile.FieldType.int)) ∈ lw_all := lw_g (lw_at lw_m1 219 rfl) rfl
theorem q246 : (Jvm.Cond.instanceMethod ({ cls := "ChainCoverModel", name := "lowest", desc := "()I" } : Jvm.MethodName)) ∈ lw_all := lw_g (lw_at lw_m1 221 rfl) rfl
theorem q247 : (Jvm.Cond.selects "ChainCoverModel" ({ cls := "ChainCoverModel", name := "lowest", desc := "()I" } : Jvm.MethodName) ({ cls := "ChainCoverModel", name := "lowest", desc := "()I" } : Jvm.MethodName)) ∈ lw_all := lw_g (lw_at lw_m1 222 rfl) rfl
theorem q248 : (Jvm.Cond.code ({ cls := "ChainCoverModel", name := "lowest", desc := "()I" } : Jvm.MethodName) prog_3_method_21_code (1 : Nat) (Option.some Jvm.ClassFile.FieldType.int)) ∈ lw_all := lw_g (lw_at lw_m1 223 rfl) rfl
theorem q249 : (Jvm.Cond.methodLink "ChainCoverModel" (58 : Nat) ({ cls := "ChainCoverModel", name := "extreme", desc := "(Z)I" } : Jvm.MethodName)) ∈ lw_all := lw_g (lw_at lw_m1 224 rfl) rfl
theorem q250 : (Jvm.Cond.privateMethod ({ cls := "ChainCoverModel", name := "extreme", desc := "(Z)I" } : Jvm.MethodName)) ∈ lw_tbl := lw_at lw_m1 225 rfl
theorem q251 : (Jvm.Cond.instanceMethod ({ cls := "ChainCoverModel", name := "extreme", desc := "(Z)I" } : Jvm.MethodName)) ∈ lw_all := lw_g (lw_at lw_m1 226 rfl) rfl
theorem q252 : (Jvm.Cond.code ({ cls := "ChainCoverModel", name := "extreme", desc := "(Z)I" } : Jvm.MethodName) prog_3_method_20_code (3 : Nat) (Option.some Jvm.ClassFile.FieldType.int)) ∈ lw_all := lw_g (lw_at lw_m1 227 rfl) rfl
theorem q253 : (Jvm.Cond.methodLink "ChainCoverModel" (52 : Nat) ({ cls := "ChainCoverModel", name := "findLargest", desc := "()V" } : Jvm.MethodName)) ∈ lw_all := lw_g (lw_at lw_m1 228 rfl) rfl
theorem q254 : (Jvm.Cond.privateMethod ({ cls := "ChainCoverModel", name := "findLargest", desc := "()V" } : Jvm.MethodName)) ∈ lw_tbl := lw_at lw_m1 229 rfl
theorem q255 : (Jvm.Cond.instanceMethod ({ cls := "ChainCoverModel", name := "findLargest", desc := "()V" } : Jvm.MethodName)) ∈ lw_all := lw_g (lw_at lw_m1 230 rfl) rfl
theorem q256 : (Jvm.Cond.code ({ cls := "ChainCoverModel", name := "findLargest", desc := "()V" } : Jvm.MethodName) prog_3_method_18_code (4 : Nat) (Option.none : Option Jvm.ClassFile.FieldType)) ∈ lw_all := lw_g (lw_at lw_m1 231 rfl) rfl
theorem q257 : (Jvm.Cond.methodLink "ChainCoverModel" (43 : Nat) ({ cls := "ChainCoverModel", name := "width", desc := "(I)I" } : Jvm.MethodName)) ∈ lw_all := lw_g (lw_at lw_m1 232 rfl) rfl
theorem q258 : (Jvm.Cond.methodLink "ChainCoverModel" (55 : Nat) ({ cls := "ChainCoverModel", name := "isExtreme", desc := "(IZ)Z" } : Jvm.MethodName)) ∈ lw_all := lw_g (lw_at lw_m1 233 rfl) rfl
theorem q259 : (Jvm.Cond.privateMethod ({ cls := "ChainCoverModel", name := "isExtreme", desc := "(IZ)Z" } : Jvm.MethodName)) ∈ lw_tbl := lw_at lw_m1 234 rfl
theorem q260 : (Jvm.Cond.instanceMethod ({ cls := "ChainCoverModel", name := "isExtreme", desc := "(IZ)Z" } : Jvm.MethodName)) ∈ lw_all := lw_g (lw_at lw_m1 235 rfl) rfl
theorem q261 : (Jvm.Cond.code ({ cls := "ChainCoverModel", name := "isExtreme", desc := "(IZ)Z" } : Jvm.MethodName) prog_3_method_19_code (4 : Nat) (Option.some Jvm.ClassFile.FieldType.boolean)) ∈ lw_all := lw_g (lw_at lw_m1 236 rfl) rfl
theorem q262 : (Jvm.Cond.methodLink "ChainCoverModel" (46 : Nat) ({ cls := "ChainCoverModel", name := "allBelow", desc := "(II)Z" } : Jvm.MethodName)) ∈ lw_all := lw_g (lw_at lw_m1 237 rfl) rfl
theorem q263 : (Jvm.Cond.privateMethod ({ cls := "ChainCoverModel", name := "allBelow", desc := "(II)Z" } : Jvm.MethodName)) ∈ lw_tbl := lw_at lw_m1 238 rfl
theorem q264 : (Jvm.Cond.instanceMethod ({ cls := "ChainCoverModel", name := "allBelow", desc := "(II)Z" } : Jvm.MethodName)) ∈ lw_all := lw_g (lw_at lw_m1 239 rfl) rfl
theorem q265 : (Jvm.Cond.code ({ cls := "ChainCoverModel", name := "allBelow", desc := "(II)Z" } : Jvm.MethodName) prog_3_method_15_code (4 : Nat) (Option.some Jvm.ClassFile.FieldType.boolean)) ∈ lw_all := lw_g (lw_at lw_m2 0 rfl) rfl
theorem q266 : (Jvm.Cond.methodLink "ChainCoverModel" (40 : Nat) ({ cls := "ChainCoverModel", name := "someAbove", desc := "(II)Z" } : Jvm.MethodName)) ∈ lw_all := lw_g (lw_at lw_m2 1 rfl) rfl
theorem q267 : (Jvm.Cond.privateMethod ({ cls := "ChainCoverModel", name := "someAbove", desc := "(II)Z" } : Jvm.MethodName)) ∈ lw_tbl := lw_at lw_m2 2 rfl
theorem q268 : (Jvm.Cond.instanceMethod ({ cls := "ChainCoverModel", name := "someAbove", desc := "(II)Z" } : Jvm.MethodName)) ∈ lw_all := lw_g (lw_at lw_m2 3 rfl) rfl
theorem q269 : (Jvm.Cond.code ({ cls := "ChainCoverModel", name := "someAbove", desc := "(II)Z" } : Jvm.MethodName) prog_3_method_16_code (4 : Nat) (Option.some Jvm.ClassFile.FieldType.boolean)) ∈ lw_all := lw_g (lw_at lw_m2 4 rfl) rfl
theorem q270 : (Jvm.Cond.methodLink "ChainCoverModel" (49 : Nat) ({ cls := "ChainCoverModel", name := "allAbove", desc := "(II)Z" } : Jvm.MethodName)) ∈ lw_all := lw_g (lw_at lw_m2 5 rfl) rfl
theorem q271 : (Jvm.Cond.privateMethod ({ cls := "ChainCoverModel", name := "allAbove", desc := "(II)Z" } : Jvm.MethodName)) ∈ lw_tbl := lw_at lw_m2 6 rfl
theorem q272 : (Jvm.Cond.instanceMethod ({ cls := "ChainCoverModel", name := "allAbove", desc := "(II)Z" } : Jvm.MethodName)) ∈ lw_all := lw_g (lw_at lw_m2 7 rfl) rfl
theorem q273 : (Jvm.Cond.code ({ cls := "ChainCoverModel", name := "allAbove", desc := "(II)Z" } : Jvm.MethodName) prog_3_method_17_code (4 : Nat) (Option.some Jvm.ClassFile.FieldType.boolean)) ∈ lw_all := lw_g (lw_at lw_m2 8 rfl) rfl
theorem q275 : (Jvm.Cond.instanceMethod ({ cls := "ChainCoverModel", name := "highest", desc := "()I" } : Jvm.MethodName)) ∈ lw_all := lw_g (lw_at lw_m2 10 rfl) rfl
theorem q276 : (Jvm.Cond.selects "ChainCoverModel" ({ cls := "ChainCoverModel", name := "highest", desc := "()I" } : Jvm.MethodName) ({ cls := "ChainCoverModel", name := "highest", desc := "()I" } : Jvm.MethodName)) ∈ lw_all := lw_g (lw_at lw_m2 11 rfl) rfl
theorem q277 : (Jvm.Cond.code ({ cls := "ChainCoverModel", name := "highest", desc := "()I" } : Jvm.MethodName) prog_3_method_22_code (1 : Nat) (Option.some Jvm.ClassFile.FieldType.int)) ∈ lw_all := lw_g (lw_at lw_m2 12 rfl) rfl
theorem q279 : (Jvm.Cond.instanceMethod ({ cls := "ChainCoverModel", name := "isLargest", desc := "(I)Z" } : Jvm.MethodName)) ∈ lw_all := lw_g (lw_at lw_m2 14 rfl) rfl
theorem q280 : (Jvm.Cond.selects "ChainCoverModel" ({ cls := "ChainCoverModel", name := "isLargest", desc := "(I)Z" } : Jvm.MethodName) ({ cls := "ChainCoverModel", name := "isLargest", desc := "(I)Z" } : Jvm.MethodName)) ∈ lw_all := lw_g (lw_at lw_m2 15 rfl) rfl
theorem q281 : (Jvm.Cond.code ({ cls := "ChainCoverModel", name := "isLargest", desc := "(I)Z" } : Jvm.MethodName) prog_3_method_23_code (3 : Nat) (Option.some Jvm.ClassFile.FieldType.boolean)) ∈ lw_all := lw_g (lw_at lw_m2 16 rfl) rfl
theorem q283 : (Jvm.Cond.instanceMethod ({ cls := "ChainCoverModel", name := "inSomeLargest", desc := "(I)Z" } : Jvm.MethodName)) ∈ lw_all := lw_g (lw_at lw_m2 18 rfl) rfl
theorem q284 : (Jvm.Cond.selects "ChainCoverModel" ({ cls := "ChainCoverModel", name := "inSomeLargest", desc := "(I)Z" } : Jvm.MethodName) ({ cls := "ChainCoverModel", name := "inSomeLargest", desc := "(I)Z" } : Jvm.MethodName)) ∈ lw_all := lw_g (lw_at lw_m2 19 rfl) rfl
theorem q285 : (Jvm.Cond.code ({ cls := "ChainCoverModel", name := "inSomeLargest", desc := "(I)Z" } : Jvm.MethodName) prog_3_method_24_code (3 : Nat) (Option.some Jvm.ClassFile.FieldType.boolean)) ∈ lw_all := lw_g (lw_at lw_m2 20 rfl) rfl
theorem in_X1 : ∀ w ∈ wsX10, w ∈ lw_all := lw_in wsX10 [186, 188, 190] (by decide +kernel) (by decide +kernel)

theorem q70 : (Jvm.Cond.arrayClass Jvm.ClassFile.FieldType.int) ∈ lw_all := lw_g (lw_at lw_m1 45 rfl) rfl
theorem q71 : (Jvm.Cond.arrayClass Jvm.ClassFile.FieldType.byte) ∈ lw_all := lw_g (lw_at lw_m1 46 rfl) rfl

theorem q25 : (Jvm.Cond.initialized "ChainCoverLaw") ∈ lw_all := lw_g (lw_at lw_m1 0 rfl) rfl
theorem q28 : (Jvm.Cond.classLink "ChainCoverLaw" (7 : Nat) "ChainCover") ∈ lw_all := lw_g (lw_at lw_m1 3 rfl) rfl
theorem q30 : (Jvm.Cond.methodLink "ChainCoverLaw" (9 : Nat) ({ cls := "ChainCover", name := "<init>", desc := "()V" } : Jvm.MethodName)) ∈ lw_all := lw_g (lw_at lw_m1 5 rfl) rfl
theorem q72 : (Jvm.Cond.methodLink "ChainCoverLaw" (13 : Nat) ({ cls := "ChainCover", name := "add", desc := "(I)I" } : Jvm.MethodName)) ∈ lw_all := lw_g (lw_at lw_m1 47 rfl) rfl
theorem q100 : (Jvm.Cond.methodLink "ChainCoverLaw" (18 : Nat) ({ cls := "ChainCover", name := "removeLast", desc := "()I" } : Jvm.MethodName)) ∈ lw_all := lw_g (lw_at lw_m1 75 rfl) rfl
theorem q104 : (Jvm.Cond.methodLink "ChainCoverLaw" (23 : Nat) ({ cls := "ChainCover", name := "turn", desc := "()I" } : Jvm.MethodName)) ∈ lw_all := lw_g (lw_at lw_m1 79 rfl) rfl
theorem q116 : (Jvm.Cond.methodLink "ChainCoverLaw" (27 : Nat) ({ cls := "ChainCover", name := "size", desc := "()I" } : Jvm.MethodName)) ∈ lw_all := lw_g (lw_at lw_m1 91 rfl) rfl
theorem q120 : (Jvm.Cond.methodLink "ChainCoverLaw" (31 : Nat) ({ cls := "ChainCover", name := "below", desc := "(II)Z" } : Jvm.MethodName)) ∈ lw_all := lw_g (lw_at lw_m1 95 rfl) rfl
theorem q128 : (Jvm.Cond.methodLink "ChainCoverLaw" (36 : Nat) ({ cls := "ChainCover", name := "width", desc := "(I)I" } : Jvm.MethodName)) ∈ lw_all := lw_g (lw_at lw_m1 103 rfl) rfl
theorem q148 : (Jvm.Cond.methodLink "ChainCoverLaw" (40 : Nat) ({ cls := "ChainCover", name := "chains", desc := "(I)I" } : Jvm.MethodName)) ∈ lw_all := lw_g (lw_at lw_m1 123 rfl) rfl
theorem q152 : (Jvm.Cond.methodLink "ChainCoverLaw" (44 : Nat) ({ cls := "ChainCover", name := "longestChain", desc := "(I)I" } : Jvm.MethodName)) ∈ lw_all := lw_g (lw_at lw_m1 127 rfl) rfl
theorem q160 : (Jvm.Cond.methodLink "ChainCoverLaw" (48 : Nat) ({ cls := "ChainCover", name := "lowest", desc := "()I" } : Jvm.MethodName)) ∈ lw_all := lw_g (lw_at lw_m1 135 rfl) rfl
theorem q164 : (Jvm.Cond.methodLink "ChainCoverLaw" (52 : Nat) ({ cls := "ChainCover", name := "highest", desc := "()I" } : Jvm.MethodName)) ∈ lw_all := lw_g (lw_at lw_m1 139 rfl) rfl
theorem q168 : (Jvm.Cond.methodLink "ChainCoverLaw" (56 : Nat) ({ cls := "ChainCover", name := "isLargest", desc := "(I)Z" } : Jvm.MethodName)) ∈ lw_all := lw_g (lw_at lw_m1 143 rfl) rfl
theorem q173 : (Jvm.Cond.methodLink "ChainCoverLaw" (61 : Nat) ({ cls := "ChainCover", name := "inSomeLargest", desc := "(I)Z" } : Jvm.MethodName)) ∈ lw_all := lw_g (lw_at lw_m1 148 rfl) rfl
theorem q177 : (Jvm.Cond.classLink "ChainCoverLaw" (10 : Nat) "ChainCoverModel") ∈ lw_all := lw_g (lw_at lw_m1 152 rfl) rfl
theorem q179 : (Jvm.Cond.methodLink "ChainCoverLaw" (12 : Nat) ({ cls := "ChainCoverModel", name := "<init>", desc := "()V" } : Jvm.MethodName)) ∈ lw_all := lw_g (lw_at lw_m1 154 rfl) rfl
theorem q193 : (Jvm.Cond.methodLink "ChainCoverLaw" (17 : Nat) ({ cls := "ChainCoverModel", name := "add", desc := "(I)I" } : Jvm.MethodName)) ∈ lw_all := lw_g (lw_at lw_m1 168 rfl) rfl
theorem q205 : (Jvm.Cond.methodLink "ChainCoverLaw" (22 : Nat) ({ cls := "ChainCoverModel", name := "removeLast", desc := "()I" } : Jvm.MethodName)) ∈ lw_all := lw_g (lw_at lw_m1 180 rfl) rfl
theorem q209 : (Jvm.Cond.methodLink "ChainCoverLaw" (26 : Nat) ({ cls := "ChainCoverModel", name := "turn", desc := "()I" } : Jvm.MethodName)) ∈ lw_all := lw_g (lw_at lw_m1 184 rfl) rfl
theorem q213 : (Jvm.Cond.methodLink "ChainCoverLaw" (30 : Nat) ({ cls := "ChainCoverModel", name := "size", desc := "()I" } : Jvm.MethodName)) ∈ lw_all := lw_g (lw_at lw_m1 188 rfl) rfl
theorem q217 : (Jvm.Cond.methodLink "ChainCoverLaw" (35 : Nat) ({ cls := "ChainCoverModel", name := "below", desc := "(II)Z" } : Jvm.MethodName)) ∈ lw_all := lw_g (lw_at lw_m1 192 rfl) rfl
theorem q221 : (Jvm.Cond.methodLink "ChainCoverLaw" (39 : Nat) ({ cls := "ChainCoverModel", name := "width", desc := "(I)I" } : Jvm.MethodName)) ∈ lw_all := lw_g (lw_at lw_m1 196 rfl) rfl
theorem q237 : (Jvm.Cond.methodLink "ChainCoverLaw" (43 : Nat) ({ cls := "ChainCoverModel", name := "chains", desc := "(I)I" } : Jvm.MethodName)) ∈ lw_all := lw_g (lw_at lw_m1 212 rfl) rfl
theorem q241 : (Jvm.Cond.methodLink "ChainCoverLaw" (47 : Nat) ({ cls := "ChainCoverModel", name := "longestChain", desc := "(I)I" } : Jvm.MethodName)) ∈ lw_all := lw_g (lw_at lw_m1 216 rfl) rfl
theorem q245 : (Jvm.Cond.methodLink "ChainCoverLaw" (51 : Nat) ({ cls := "ChainCoverModel", name := "lowest", desc := "()I" } : Jvm.MethodName)) ∈ lw_all := lw_g (lw_at lw_m1 220 rfl) rfl
theorem q274 : (Jvm.Cond.methodLink "ChainCoverLaw" (55 : Nat) ({ cls := "ChainCoverModel", name := "highest", desc := "()I" } : Jvm.MethodName)) ∈ lw_all := lw_g (lw_at lw_m2 9 rfl) rfl
theorem q278 : (Jvm.Cond.methodLink "ChainCoverLaw" (60 : Nat) ({ cls := "ChainCoverModel", name := "isLargest", desc := "(I)Z" } : Jvm.MethodName)) ∈ lw_all := lw_g (lw_at lw_m2 13 rfl) rfl
theorem q282 : (Jvm.Cond.methodLink "ChainCoverLaw" (64 : Nat) ({ cls := "ChainCoverModel", name := "inSomeLargest", desc := "(I)Z" } : Jvm.MethodName)) ∈ lw_all := lw_g (lw_at lw_m2 17 rfl) rfl

/-! the law's own entry -/
abbrev cL_law : ByteArray := code
theorem dL_law_0 : decode cL_law 0 = .ok (.new 7, 3) := by decide +kernel
theorem dL_law_3 : decode cL_law 3 = .ok (.dup, 1) := by decide +kernel
theorem dL_law_4 : decode cL_law 4 = .ok (.invokespecial 9, 3) := by decide +kernel
theorem dL_law_7 : decode cL_law 7 = .ok (.astore_n 1, 1) := by decide +kernel
theorem dL_law_8 : decode cL_law 8 = .ok (.new 10, 3) := by decide +kernel
theorem dL_law_11 : decode cL_law 11 = .ok (.dup, 1) := by decide +kernel
theorem dL_law_12 : decode cL_law 12 = .ok (.invokespecial 12, 3) := by decide +kernel
theorem dL_law_15 : decode cL_law 15 = .ok (.astore_n 2, 1) := by decide +kernel
theorem dL_law_16 : decode cL_law 16 = .ok (.iconst 0, 1) := by decide +kernel
theorem dL_law_17 : decode cL_law 17 = .ok (.istore_n 3, 1) := by decide +kernel
theorem dL_law_18 : decode cL_law 18 = .ok (.iload_n 3, 1) := by decide +kernel
theorem dL_law_19 : decode cL_law 19 = .ok (.aload_n 0, 1) := by decide +kernel
theorem dL_law_20 : decode cL_law 20 = .ok (.arraylength, 1) := by decide +kernel
theorem dL_law_21 : decode cL_law 21 = .ok (.iconst 3, 1) := by decide +kernel
theorem dL_law_22 : decode cL_law 22 = .ok (.isub, 1) := by decide +kernel
theorem dL_law_23 : decode cL_law 23 = .ok (.if_icmp .gt 315, 3) := by decide +kernel
theorem dL_law_26 : decode cL_law 26 = .ok (.aload_n 0, 1) := by decide +kernel
theorem dL_law_27 : decode cL_law 27 = .ok (.iload_n 3, 1) := by decide +kernel
theorem dL_law_28 : decode cL_law 28 = .ok (.iaload, 1) := by decide +kernel
theorem dL_law_29 : decode cL_law 29 = .ok (.bipush 15, 2) := by decide +kernel
theorem dL_law_31 : decode cL_law 31 = .ok (.iand, 1) := by decide +kernel
theorem dL_law_32 : decode cL_law 32 = .ok (.tableswitch 300 0 11 #[64, 87, 100, 113, 126, 159, 182, 205, 228, 241, 254, 277], 64) := by decide +kernel
theorem dL_law_96 : decode cL_law 96 = .ok (.aload_n 1, 1) := by decide +kernel
theorem dL_law_97 : decode cL_law 97 = .ok (.aload_n 0, 1) := by decide +kernel
theorem dL_law_98 : decode cL_law 98 = .ok (.iload_n 3, 1) := by decide +kernel
theorem dL_law_99 : decode cL_law 99 = .ok (.iconst 1, 1) := by decide +kernel
theorem dL_law_100 : decode cL_law 100 = .ok (.iadd, 1) := by decide +kernel
theorem dL_law_101 : decode cL_law 101 = .ok (.iaload, 1) := by decide +kernel
theorem dL_law_102 : decode cL_law 102 = .ok (.invokevirtual 13, 3) := by decide +kernel
theorem dL_law_105 : decode cL_law 105 = .ok (.aload_n 2, 1) := by decide +kernel
theorem dL_law_106 : decode cL_law 106 = .ok (.aload_n 0, 1) := by decide +kernel
theorem dL_law_107 : decode cL_law 107 = .ok (.iload_n 3, 1) := by decide +kernel
theorem dL_law_108 : decode cL_law 108 = .ok (.iconst 1, 1) := by decide +kernel
theorem dL_law_109 : decode cL_law 109 = .ok (.iadd, 1) := by decide +kernel
theorem dL_law_110 : decode cL_law 110 = .ok (.iaload, 1) := by decide +kernel
theorem dL_law_111 : decode cL_law 111 = .ok (.invokevirtual 17, 3) := by decide +kernel
theorem dL_law_114 : decode cL_law 114 = .ok (.if_icmp .eq 218, 3) := by decide +kernel
theorem dL_law_117 : decode cL_law 117 = .ok (.iconst 0, 1) := by decide +kernel
theorem dL_law_118 : decode cL_law 118 = .ok (.ireturn, 1) := by decide +kernel
theorem dL_law_119 : decode cL_law 119 = .ok (.aload_n 1, 1) := by decide +kernel
theorem dL_law_120 : decode cL_law 120 = .ok (.invokevirtual 18, 3) := by decide +kernel
theorem dL_law_123 : decode cL_law 123 = .ok (.aload_n 2, 1) := by decide +kernel
theorem dL_law_124 : decode cL_law 124 = .ok (.invokevirtual 22, 3) := by decide +kernel
theorem dL_law_127 : decode cL_law 127 = .ok (.if_icmp .eq 205, 3) := by decide +kernel
theorem dL_law_130 : decode cL_law 130 = .ok (.iconst 0, 1) := by decide +kernel
theorem dL_law_131 : decode cL_law 131 = .ok (.ireturn, 1) := by decide +kernel
theorem dL_law_132 : decode cL_law 132 = .ok (.aload_n 1, 1) := by decide +kernel
theorem dL_law_133 : decode cL_law 133 = .ok (.invokevirtual 23, 3) := by decide +kernel
theorem dL_law_136 : decode cL_law 136 = .ok (.aload_n 2, 1) := by decide +kernel
theorem dL_law_137 : decode cL_law 137 = .ok (.invokevirtual 26, 3) := by decide +kernel
theorem dL_law_140 : decode cL_law 140 = .ok (.if_icmp .eq 192, 3) := by decide +kernel
theorem dL_law_143 : decode cL_law 143 = .ok (.iconst 0, 1) := by decide +kernel
theorem dL_law_144 : decode cL_law 144 = .ok (.ireturn, 1) := by decide +kernel
theorem dL_law_145 : decode cL_law 145 = .ok (.aload_n 1, 1) := by decide +kernel
theorem dL_law_146 : decode cL_law 146 = .ok (.invokevirtual 27, 3) := by decide +kernel
theorem dL_law_149 : decode cL_law 149 = .ok (.aload_n 2, 1) := by decide +kernel
theorem dL_law_150 : decode cL_law 150 = .ok (.invokevirtual 30, 3) := by decide +kernel
theorem dL_law_153 : decode cL_law 153 = .ok (.if_icmp .eq 179, 3) := by decide +kernel
theorem dL_law_156 : decode cL_law 156 = .ok (.iconst 0, 1) := by decide +kernel
theorem dL_law_157 : decode cL_law 157 = .ok (.ireturn, 1) := by decide +kernel
theorem dL_law_158 : decode cL_law 158 = .ok (.aload_n 1, 1) := by decide +kernel
theorem dL_law_159 : decode cL_law 159 = .ok (.aload_n 0, 1) := by decide +kernel
theorem dL_law_160 : decode cL_law 160 = .ok (.iload_n 3, 1) := by decide +kernel
theorem dL_law_161 : decode cL_law 161 = .ok (.iconst 1, 1) := by decide +kernel
theorem dL_law_162 : decode cL_law 162 = .ok (.iadd, 1) := by decide +kernel
theorem dL_law_163 : decode cL_law 163 = .ok (.iaload, 1) := by decide +kernel
theorem dL_law_164 : decode cL_law 164 = .ok (.aload_n 0, 1) := by decide +kernel
theorem dL_law_165 : decode cL_law 165 = .ok (.iload_n 3, 1) := by decide +kernel
theorem dL_law_166 : decode cL_law 166 = .ok (.iconst 2, 1) := by decide +kernel
theorem dL_law_167 : decode cL_law 167 = .ok (.iadd, 1) := by decide +kernel
theorem dL_law_168 : decode cL_law 168 = .ok (.iaload, 1) := by decide +kernel
theorem dL_law_169 : decode cL_law 169 = .ok (.invokevirtual 31, 3) := by decide +kernel
theorem dL_law_172 : decode cL_law 172 = .ok (.aload_n 2, 1) := by decide +kernel
theorem dL_law_173 : decode cL_law 173 = .ok (.aload_n 0, 1) := by decide +kernel
theorem dL_law_174 : decode cL_law 174 = .ok (.iload_n 3, 1) := by decide +kernel
theorem dL_law_175 : decode cL_law 175 = .ok (.iconst 1, 1) := by decide +kernel
theorem dL_law_176 : decode cL_law 176 = .ok (.iadd, 1) := by decide +kernel
theorem dL_law_177 : decode cL_law 177 = .ok (.iaload, 1) := by decide +kernel
theorem dL_law_178 : decode cL_law 178 = .ok (.aload_n 0, 1) := by decide +kernel
theorem dL_law_179 : decode cL_law 179 = .ok (.iload_n 3, 1) := by decide +kernel
theorem dL_law_180 : decode cL_law 180 = .ok (.iconst 2, 1) := by decide +kernel
theorem dL_law_181 : decode cL_law 181 = .ok (.iadd, 1) := by decide +kernel
theorem dL_law_182 : decode cL_law 182 = .ok (.iaload, 1) := by decide +kernel
theorem dL_law_183 : decode cL_law 183 = .ok (.invokevirtual 35, 3) := by decide +kernel
theorem dL_law_186 : decode cL_law 186 = .ok (.if_icmp .eq 146, 3) := by decide +kernel
theorem dL_law_189 : decode cL_law 189 = .ok (.iconst 0, 1) := by decide +kernel
theorem dL_law_190 : decode cL_law 190 = .ok (.ireturn, 1) := by decide +kernel
theorem dL_law_191 : decode cL_law 191 = .ok (.aload_n 1, 1) := by decide +kernel
theorem dL_law_192 : decode cL_law 192 = .ok (.aload_n 0, 1) := by decide +kernel
theorem dL_law_193 : decode cL_law 193 = .ok (.iload_n 3, 1) := by decide +kernel
theorem dL_law_194 : decode cL_law 194 = .ok (.iconst 1, 1) := by decide +kernel
theorem dL_law_195 : decode cL_law 195 = .ok (.iadd, 1) := by decide +kernel
theorem dL_law_196 : decode cL_law 196 = .ok (.iaload, 1) := by decide +kernel
theorem dL_law_197 : decode cL_law 197 = .ok (.invokevirtual 36, 3) := by decide +kernel
theorem dL_law_200 : decode cL_law 200 = .ok (.aload_n 2, 1) := by decide +kernel
theorem dL_law_201 : decode cL_law 201 = .ok (.aload_n 0, 1) := by decide +kernel
theorem dL_law_202 : decode cL_law 202 = .ok (.iload_n 3, 1) := by decide +kernel
theorem dL_law_203 : decode cL_law 203 = .ok (.iconst 1, 1) := by decide +kernel
theorem dL_law_204 : decode cL_law 204 = .ok (.iadd, 1) := by decide +kernel
theorem dL_law_205 : decode cL_law 205 = .ok (.iaload, 1) := by decide +kernel
theorem dL_law_206 : decode cL_law 206 = .ok (.invokevirtual 39, 3) := by decide +kernel
theorem dL_law_209 : decode cL_law 209 = .ok (.if_icmp .eq 123, 3) := by decide +kernel
theorem dL_law_212 : decode cL_law 212 = .ok (.iconst 0, 1) := by decide +kernel
theorem dL_law_213 : decode cL_law 213 = .ok (.ireturn, 1) := by decide +kernel
theorem dL_law_214 : decode cL_law 214 = .ok (.aload_n 1, 1) := by decide +kernel
theorem dL_law_215 : decode cL_law 215 = .ok (.aload_n 0, 1) := by decide +kernel
theorem dL_law_216 : decode cL_law 216 = .ok (.iload_n 3, 1) := by decide +kernel
theorem dL_law_217 : decode cL_law 217 = .ok (.iconst 1, 1) := by decide +kernel
theorem dL_law_218 : decode cL_law 218 = .ok (.iadd, 1) := by decide +kernel
theorem dL_law_219 : decode cL_law 219 = .ok (.iaload, 1) := by decide +kernel
theorem dL_law_220 : decode cL_law 220 = .ok (.invokevirtual 40, 3) := by decide +kernel
theorem dL_law_223 : decode cL_law 223 = .ok (.aload_n 2, 1) := by decide +kernel
theorem dL_law_224 : decode cL_law 224 = .ok (.aload_n 0, 1) := by decide +kernel
theorem dL_law_225 : decode cL_law 225 = .ok (.iload_n 3, 1) := by decide +kernel
theorem dL_law_226 : decode cL_law 226 = .ok (.iconst 1, 1) := by decide +kernel
theorem dL_law_227 : decode cL_law 227 = .ok (.iadd, 1) := by decide +kernel
theorem dL_law_228 : decode cL_law 228 = .ok (.iaload, 1) := by decide +kernel
theorem dL_law_229 : decode cL_law 229 = .ok (.invokevirtual 43, 3) := by decide +kernel
theorem dL_law_232 : decode cL_law 232 = .ok (.if_icmp .eq 100, 3) := by decide +kernel
theorem dL_law_235 : decode cL_law 235 = .ok (.iconst 0, 1) := by decide +kernel
theorem dL_law_236 : decode cL_law 236 = .ok (.ireturn, 1) := by decide +kernel
theorem dL_law_237 : decode cL_law 237 = .ok (.aload_n 1, 1) := by decide +kernel
theorem dL_law_238 : decode cL_law 238 = .ok (.aload_n 0, 1) := by decide +kernel
theorem dL_law_239 : decode cL_law 239 = .ok (.iload_n 3, 1) := by decide +kernel
theorem dL_law_240 : decode cL_law 240 = .ok (.iconst 1, 1) := by decide +kernel
theorem dL_law_241 : decode cL_law 241 = .ok (.iadd, 1) := by decide +kernel
theorem dL_law_242 : decode cL_law 242 = .ok (.iaload, 1) := by decide +kernel
theorem dL_law_243 : decode cL_law 243 = .ok (.invokevirtual 44, 3) := by decide +kernel
theorem dL_law_246 : decode cL_law 246 = .ok (.aload_n 2, 1) := by decide +kernel
theorem dL_law_247 : decode cL_law 247 = .ok (.aload_n 0, 1) := by decide +kernel
theorem dL_law_248 : decode cL_law 248 = .ok (.iload_n 3, 1) := by decide +kernel
theorem dL_law_249 : decode cL_law 249 = .ok (.iconst 1, 1) := by decide +kernel
theorem dL_law_250 : decode cL_law 250 = .ok (.iadd, 1) := by decide +kernel
theorem dL_law_251 : decode cL_law 251 = .ok (.iaload, 1) := by decide +kernel
theorem dL_law_252 : decode cL_law 252 = .ok (.invokevirtual 47, 3) := by decide +kernel
theorem dL_law_255 : decode cL_law 255 = .ok (.if_icmp .eq 77, 3) := by decide +kernel
theorem dL_law_258 : decode cL_law 258 = .ok (.iconst 0, 1) := by decide +kernel
theorem dL_law_259 : decode cL_law 259 = .ok (.ireturn, 1) := by decide +kernel
theorem dL_law_260 : decode cL_law 260 = .ok (.aload_n 1, 1) := by decide +kernel
theorem dL_law_261 : decode cL_law 261 = .ok (.invokevirtual 48, 3) := by decide +kernel
theorem dL_law_264 : decode cL_law 264 = .ok (.aload_n 2, 1) := by decide +kernel
theorem dL_law_265 : decode cL_law 265 = .ok (.invokevirtual 51, 3) := by decide +kernel
theorem dL_law_268 : decode cL_law 268 = .ok (.if_icmp .eq 64, 3) := by decide +kernel
theorem dL_law_271 : decode cL_law 271 = .ok (.iconst 0, 1) := by decide +kernel
theorem dL_law_272 : decode cL_law 272 = .ok (.ireturn, 1) := by decide +kernel
theorem dL_law_273 : decode cL_law 273 = .ok (.aload_n 1, 1) := by decide +kernel
theorem dL_law_274 : decode cL_law 274 = .ok (.invokevirtual 52, 3) := by decide +kernel
theorem dL_law_277 : decode cL_law 277 = .ok (.aload_n 2, 1) := by decide +kernel
theorem dL_law_278 : decode cL_law 278 = .ok (.invokevirtual 55, 3) := by decide +kernel
theorem dL_law_281 : decode cL_law 281 = .ok (.if_icmp .eq 51, 3) := by decide +kernel
theorem dL_law_284 : decode cL_law 284 = .ok (.iconst 0, 1) := by decide +kernel
theorem dL_law_285 : decode cL_law 285 = .ok (.ireturn, 1) := by decide +kernel
theorem dL_law_286 : decode cL_law 286 = .ok (.aload_n 1, 1) := by decide +kernel
theorem dL_law_287 : decode cL_law 287 = .ok (.aload_n 0, 1) := by decide +kernel
theorem dL_law_288 : decode cL_law 288 = .ok (.iload_n 3, 1) := by decide +kernel
theorem dL_law_289 : decode cL_law 289 = .ok (.iconst 1, 1) := by decide +kernel
theorem dL_law_290 : decode cL_law 290 = .ok (.iadd, 1) := by decide +kernel
theorem dL_law_291 : decode cL_law 291 = .ok (.iaload, 1) := by decide +kernel
theorem dL_law_292 : decode cL_law 292 = .ok (.invokevirtual 56, 3) := by decide +kernel
theorem dL_law_295 : decode cL_law 295 = .ok (.aload_n 2, 1) := by decide +kernel
theorem dL_law_296 : decode cL_law 296 = .ok (.aload_n 0, 1) := by decide +kernel
theorem dL_law_297 : decode cL_law 297 = .ok (.iload_n 3, 1) := by decide +kernel
theorem dL_law_298 : decode cL_law 298 = .ok (.iconst 1, 1) := by decide +kernel
theorem dL_law_299 : decode cL_law 299 = .ok (.iadd, 1) := by decide +kernel
theorem dL_law_300 : decode cL_law 300 = .ok (.iaload, 1) := by decide +kernel
theorem dL_law_301 : decode cL_law 301 = .ok (.invokevirtual 60, 3) := by decide +kernel
theorem dL_law_304 : decode cL_law 304 = .ok (.if_icmp .eq 28, 3) := by decide +kernel
theorem dL_law_307 : decode cL_law 307 = .ok (.iconst 0, 1) := by decide +kernel
theorem dL_law_308 : decode cL_law 308 = .ok (.ireturn, 1) := by decide +kernel
theorem dL_law_309 : decode cL_law 309 = .ok (.aload_n 1, 1) := by decide +kernel
theorem dL_law_310 : decode cL_law 310 = .ok (.aload_n 0, 1) := by decide +kernel
theorem dL_law_311 : decode cL_law 311 = .ok (.iload_n 3, 1) := by decide +kernel
theorem dL_law_312 : decode cL_law 312 = .ok (.iconst 1, 1) := by decide +kernel
theorem dL_law_313 : decode cL_law 313 = .ok (.iadd, 1) := by decide +kernel
theorem dL_law_314 : decode cL_law 314 = .ok (.iaload, 1) := by decide +kernel
theorem dL_law_315 : decode cL_law 315 = .ok (.invokevirtual 61, 3) := by decide +kernel
theorem dL_law_318 : decode cL_law 318 = .ok (.aload_n 2, 1) := by decide +kernel
theorem dL_law_319 : decode cL_law 319 = .ok (.aload_n 0, 1) := by decide +kernel
theorem dL_law_320 : decode cL_law 320 = .ok (.iload_n 3, 1) := by decide +kernel
theorem dL_law_321 : decode cL_law 321 = .ok (.iconst 1, 1) := by decide +kernel
theorem dL_law_322 : decode cL_law 322 = .ok (.iadd, 1) := by decide +kernel
theorem dL_law_323 : decode cL_law 323 = .ok (.iaload, 1) := by decide +kernel
theorem dL_law_324 : decode cL_law 324 = .ok (.invokevirtual 64, 3) := by decide +kernel
theorem dL_law_327 : decode cL_law 327 = .ok (.if_icmp .eq 5, 3) := by decide +kernel
theorem dL_law_330 : decode cL_law 330 = .ok (.iconst 0, 1) := by decide +kernel
theorem dL_law_331 : decode cL_law 331 = .ok (.ireturn, 1) := by decide +kernel
theorem dL_law_332 : decode cL_law 332 = .ok (.iinc 3 3, 3) := by decide +kernel
theorem dL_law_335 : decode cL_law 335 = .ok (.goto (-317), 3) := by decide +kernel
theorem dL_law_338 : decode cL_law 338 = .ok (.iconst 1, 1) := by decide +kernel
theorem dL_law_339 : decode cL_law 339 = .ok (.ireturn, 1) := by decide +kernel
end
section
set_option maxRecDepth 100000
/-! THE WALKS' JUDGEMENT. zS: an object's state, s 0 its numbers, s k its k-th array. zc_G: at this state, pc, locals, stack the machine comes to the method's end; zc_M: a method's contract; a row an instruction below. -/
abbrev zS : Type := Nat → Nat → Nat
def zc_st (s : zS) (k j v : Nat) : zS := fun k' j' => if k' = k then (if j' = j then v else s k' j') else s k' j'
def pI (k : Nat) : Int32 := nI k - 1
noncomputable def pB (P : Prop) : Int32 := @ite _ P (Classical.propDecidable P) 1 0
theorem pB_t {P : Prop} (h : P) : pB P = 1 := by
  unfold pB
  exact if_pos h
theorem pB_f {P : Prop} (h : ¬ P) : pB P = 0 := by
  unfold pB
  exact if_neg h
theorem pB_0 {P : Prop} : pB P = 0 ↔ ¬ P := by
  constructor
  · intro h hp
    rw [pB_t hp] at h
    exact absurd h (by decide)
  · exact pB_f
theorem pB_1 {P : Prop} : pB P = 1 ↔ P := by
  constructor
  · intro h
    apply Classical.byContradiction
    intro hp
    rw [pB_f hp] at h
    exact absurd h (by decide)
  · exact pB_t
theorem pB_c {P Q : Prop} (h : P ↔ Q) : pB P = pB Q := by rw [propext h]
theorem pB_nar (P : Prop) : narrow .boolean (.int (pB P)) = .int (pB P) := by
  by_cases h : P
  · rw [pB_t h]; rfl
  · rw [pB_f h]; rfl
theorem pI_0 : pI 0 = -1 := by decide
theorem pI_s (k : Nat) : pI (k + 1) = nI k := nI_pred k
abbrev vwCl : List vw_C := [(RX0, TX0, 11), (RX1, TX1, 3)]
abbrev zc_ty (ca : Nat → ClassId) : List (ClassId × FieldType) := [(ca 0, .int), (ca 1, .byte)]
def zc_xf (q : Nat → Nat) (s : zS) : List Value := [.int (nI (s 0 0)), .ref (q 1), .ref (q 2), .int (nI (s 0 1)), .ref (q 3), .ref (q 4), .ref (q 5), .ref (q 6), .ref (q 7), .ref (q 8), .ref (q 9)]
def zc_XL (q : Nat → Nat) (ca : Nat → ClassId) (s : zS) : va_W := [(q 0, .inr (0, zc_xf q s)), (q 1, .inl (ca 0, 10, .inl (fun j => nI (s 1 j)))), (q 2, .inl (ca 0, 10, .inl (fun j => nI (s 2 j)))), (q 3, .inl (ca 1, 10, .inl (fun j => pI (s 3 j)))), (q 4, .inl (ca 1, 10, .inl (fun j => pI (s 4 j)))), (q 5, .inl (ca 1, 10, .inl (fun j => pI (s 5 j)))), (q 6, .inl (ca 1, 10, .inl (fun j => pI (s 6 j)))), (q 7, .inl (ca 1, 10, .inl (fun j => nI (s 7 j)))), (q 8, .inl (ca 1, 10, .inl (fun j => nI (s 8 j)))), (q 9, .inl (ca 1, 10, .inl (fun j => nI (s 9 j))))]
def zc_mf (q : Nat → Nat) (s : zS) : List Value := [.int (nI (s 0 0)), .ref (q 1), .ref (q 2)]
def zc_ML (q : Nat → Nat) (ca : Nat → ClassId) (s : zS) : va_W := [(q 0, .inr (1, zc_mf q s)), (q 1, .inl (ca 0, 10, .inl (fun j => nI (s 1 j)))), (q 2, .inl (ca 0, 1024, .inl (fun j => nI (s 2 j))))]
def zc_G (p : Program) (l : Launch) (e : Env) (R : Room) (s0 : State) (m : MethodId) (args : Array Value) (below : List Frame) (meth : Method) (c : Code) (D : va_G) (Wf : zS → va_W) (A : Nat → Prop) (Q : State → Prop) (nL : Nat) (s : zS) (pc : Nat) (lv : List (Nat × Value)) (st : List Value) : Prop :=
  ∀ (H : Heap) (locs : List Loc) (ls : Array Slot), va_P D vwCl (Wf s) H → va_D A (Wf s) → va_S A s0.heap H locs → lv_has ls nL lv → W p l e R s0 m args below meth c H locs 0 0 Q (F0 m pc ls st)
def zc_R (l : Launch) (own : String) (Lf : (Nat → Nat) → (Nat → ClassId) → zS → va_W) (q : Nat → Nat) (ca : Nat → ClassId) (cc : ByteArray) (nL fr lo : Nat) (ret : Option FieldType) (post : Option Value → zS → Prop) (G : zS → Nat → List (Nat × Value) → List Value → Prop) : Prop :=
  ∃ (p : Program) (e : Env) (s0 : State) (m : MethodId) (args : Array Value) (below : List Frame) (meth : Method) (c : Code) (D : va_G) (A : Nat → Prop) (Q : State → Prop),
    G = zc_G p l e { frames := fr, cells := 0, slots := 0, locals := lo } s0 m args below meth c D (Lf q ca) A Q nL ∧ CallFix p m c cc nL s0 args lw_all own ∧ va_K D vwCl (zc_ty ca) s0 ∧ (∀ x : Nat, s0.heap.size ≤ x → A x) ∧
    (∀ (x : Int32) (s : zS) (pc : Nat) (lv : List (Nat × Value)) (ty : FieldType), ret = some ty → narrow ty (.int x) = .int x → decode cc pc = .ok (.ireturn, 1) → post (some (.int x)) s → G s pc lv [.int x]) ∧
    (∀ (s : zS) (pc : Nat) (lv : List (Nat × Value)), ret = none → decode cc pc = .ok (.return_, 1) → post none s → G s pc lv [])
def zc_Q {S : Type} (post : Option Value → S → Prop) (B : S → State → Prop) (A : Nat → Prop) : Array Value → State → Outcome → State → Prop := fun _ st oc t => (∃ (v : Option Value) (u : S), oc = .returned v ∧ post v u ∧ B u t) ∧ va_F A st t
/-- the contract of a method that makes no cells: from the state s it returns, 'post answer new-state' -/
def zc_M (l : Launch) (Lf : (Nat → Nat) → (Nat → ClassId) → zS → va_W) (y : MethodName) (b : ByteArray) (nL fr lo : Nat) (ret : Option FieldType) (As : List Value) (s : zS) (post : Option Value → zS → Prop) : Prop :=
  ∀ (D : va_G) (q : Nat → Nat) (ca : Nat → ClassId) (sz : Nat), Met l y (ws_ y b nL ret) ({ frames := fr, cells := 0, slots := 0, locals := lo }) (va_Pc (.ref (q 0) :: As) (fun U => U.heap.size = sz ∧ va_P D vwCl (Lf q ca s) U.heap ∧ va_K D vwCl (zc_ty ca) U ∧ va_D (fun _ => True) (Lf q ca s))) (zc_Q post (fun s' t => va_P D vwCl (Lf q ca s') t.heap ∧ va_K D vwCl (zc_ty ca) t ∧ va_D (va_A (Lf q ca s) sz) (Lf q ca s')) (va_A (Lf q ca s) sz)) 0 0 (va_A (Lf q ca s) sz)
section
variable {l : Launch} {own : String} {Lf : (Nat → Nat) → (Nat → ClassId) → zS → va_W} {q : Nat → Nat} {ca : Nat → ClassId} {cc : ByteArray} {nL fr lo : Nat} {ret : Option FieldType} {post : Option Value → zS → Prop} {G : zS → Nat → List (Nat × Value) → List Value → Prop} {s : zS} {pc : Nat} {lv : List (Nat × Value)} {st : List Value}
set_option maxHeartbeats 4000000 in
theorem zc_M.of {y : MethodName} {As : List Value} (hy : plainName y.cls = true) (ho : y.cls = own) (hlen : ∀ a : Nat, (lg_sl (.ref a :: As)).length ≤ nL)
    (h : ∀ (q : Nat → Nat) (ca : Nat → ClassId) (G : zS → Nat → List (Nat × Value) → List Value → Prop), zc_R l own Lf q ca cc nL fr lo ret post G → G s 0 (lv_args 0 (.ref (q 0) :: As)) []) : zc_M l Lf y cc nL fr lo ret As s post := by
  intro D q ca sz
  refine Met.ofW (cc := cc) (maxL := nL) (ret := ret) hy rfl ?_
  intro p e s0 m args below meth c s₁ B hml hv
  obtain ⟨rfl, hsz, hP, hK, hD0⟩ := hv
  have hts := atoms_spec (ws := ws_ y cc nL ret) B.pre
  have hts : ∀ w ∈ lw_all, w.before _ s0 = true := fun w h => hts w (List.mem_cons_of_mem _ h)
  have hown : s0.vm.findClass own = some m.cls := by
    rw [← ho]
    exact findClass_of_methodNamed B.named
  subst hsz
  have hD := hD0.self (sz := s0.heap.size)
  generalize hAe : va_A (Lf q ca s) s0.heap.size = A at hD ⊢
  have hA : ∀ x : Nat, s0.heap.size ≤ x → A x := fun x h => by rw [← hAe]; exact Or.inr h
  have hl := lv_entry (.ref (q 0) :: As) (n := nL) (hlen _)
  rw [lg_entry_eq]
  generalize (lg_sl (.ref (q 0) :: As) ++ List.replicate (nL - (lg_sl (.ref (q 0) :: As)).length) Slot.unset).toArray = ls at hl ⊢
  refine h q ca (zc_G p l e { frames := fr, cells := 0, slots := 0, locals := lo } s0 m _ below meth c D (Lf q ca) A _ nL) ⟨p, e, s0, m, _, below, meth, c, D, A, _, rfl, ⟨B.exec, B.bytes, hml, hown, hts⟩, hK, hA, ?_, ?_⟩ s0.heap [] ls hP hD va_S.rf hl
  · intro x s' pc lv ty hty hn d hp H locs ls hP hD hS hl
    exact W.zret (ty := ty) B.exec B.bytes (B.returns.trans hty) hn (fun t ht hW => ⟨⟨some (.int x), s', rfl, hp, by rw [ht]; exact hP, va_K.moved hW.alike hK, hD⟩, hS.F ht⟩) hS.2.2 d B.notSynchronized
  · intro s' pc lv hty d hp H locs ls hP hD hS hl
    exact W.vret B.exec B.bytes (B.returns.trans hty) (fun t ht hW => ⟨⟨none, s', rfl, hp, by rw [ht]; exact hP, va_K.moved hW.alike hK, hD⟩, hS.F ht⟩) hS.2.2 d B.notSynchronized
theorem zc_M.weak {y : MethodName} {As : List Value} {post' : Option Value → zS → Prop} (h : zc_M l Lf y cc nL fr lo ret As s post) (hp : ∀ v s', post v s' → post' v s') : zc_M l Lf y cc nL fr lo ret As s post' := by
  intro D q ca sz p e hx hc hk s0 m args below hf hap hpre hcalls
  obtain ⟨k, o, h1, h2, h3, ⟨⟨⟨v, u, a1, a2, a3⟩, a4⟩, a5⟩⟩ := h D q ca sz p e hx hc hk s0 m args below hf hap hpre hcalls
  exact ⟨k, o, h1, h2, h3, ⟨⟨⟨v, u, a1, hp _ _ a2, a3⟩, a4⟩, a5⟩⟩
theorem g_iconst (hG : zc_R l own Lf q ca cc nL fr lo ret post G) {n : Int} {v : Int32} (d : decode cc pc = .ok (.iconst n, 1)) (hv : Int32.ofInt n = v) (k : G s (pc + 1) lv (.int v :: st)) : G s pc lv (st) := by
  obtain ⟨p, e, s0, m, args, below, meth, c, D, A, Q, rfl, F, hK, hA, r1, r2⟩ := hG
  intro H locs ls hP hD hS hl
  exact lv_iconst F.1 F.2.1 d hv (k H locs ls hP hD hS hl)
theorem g_bipush (hG : zc_R l own Lf q ca cc nL fr lo ret post G) {n : Int} {v : Int32} (d : decode cc pc = .ok (.bipush n, 2)) (hv : (Int8.ofInt n).toInt32 = v) (k : G s (pc + 2) lv (.int v :: st)) : G s pc lv (st) := by
  obtain ⟨p, e, s0, m, args, below, meth, c, D, A, Q, rfl, F, hK, hA, r1, r2⟩ := hG
  intro H locs ls hP hD hS hl
  exact lv_bipush F.1 F.2.1 d hv (k H locs ls hP hD hS hl)
theorem g_iload_n (hG : zc_R l own Lf q ca cc nL fr lo ret post G) {i : Fin 4} {j : Nat} {x : Int32} (d : decode cc pc = .ok (.iload_n i, 1)) (hj : (i : Nat) = j) (k : Nat) (hk : lv[k]? = some (j, .int x)) (kk : G s (pc + 1) lv (.int x :: st)) : G s pc lv (st) := by
  obtain ⟨p, e, s0, m, args, below, meth, c, D, A, Q, rfl, F, hK, hA, r1, r2⟩ := hG
  intro H locs ls hP hD hS hl
  exact lv_iload_n F.1 F.2.1 d hj (lv_at hl k hk) (kk H locs ls hP hD hS hl)
theorem g_iload (hG : zc_R l own Lf q ca cc nL fr lo ret post G) {j : Nat} {x : Int32} (d : decode cc pc = .ok (.iload j, 2)) (k : Nat) (hk : lv[k]? = some (j, .int x)) (kk : G s (pc + 2) lv (.int x :: st)) : G s pc lv (st) := by
  obtain ⟨p, e, s0, m, args, below, meth, c, D, A, Q, rfl, F, hK, hA, r1, r2⟩ := hG
  intro H locs ls hP hD hS hl
  exact lv_iload F.1 F.2.1 d (lv_at hl k hk) (kk H locs ls hP hD hS hl)
theorem g_aload_n (hG : zc_R l own Lf q ca cc nL fr lo ret post G) {i : Fin 4} {j : Nat} {x : Nat} (d : decode cc pc = .ok (.aload_n i, 1)) (hj : (i : Nat) = j) (k : Nat) (hk : lv[k]? = some (j, .ref x)) (kk : G s (pc + 1) lv (.ref x :: st)) : G s pc lv (st) := by
  obtain ⟨p, e, s0, m, args, below, meth, c, D, A, Q, rfl, F, hK, hA, r1, r2⟩ := hG
  intro H locs ls hP hD hS hl
  exact lv_aload_n F.1 F.2.1 d hj (lv_at hl k hk) (kk H locs ls hP hD hS hl)
theorem g_istore_n (hG : zc_R l own Lf q ca cc nL fr lo ret post G) {i : Fin 4} {j : Nat} {x : Int32} {lv' : List (Nat × Value)} (d : decode cc pc = .ok (.istore_n i, 1)) (hj : (i : Nat) = j) (hn : j < nL) (ks : List Nat) (hp : lv_pick ((j, Value.int x) :: lv.filter (fun z => !(z.1 == j) && !(z.1 + 1 == j && z.2.category == 2))) ks = lv') (kk : G s (pc + 1) lv' st) : G s pc lv (.int x :: st) := by
  obtain ⟨p, e, s0, m, args, below, meth, c, D, A, Q, rfl, F, hK, hA, r1, r2⟩ := hG
  intro H locs ls hP hD hS hl
  exact lv_istore_n F.1 F.2.1 d hj hl hn rfl (fun ls' h' => kk H locs ls' hP hD hS (lv_sub h' ks hp))
theorem g_istore (hG : zc_R l own Lf q ca cc nL fr lo ret post G) {j : Nat} {x : Int32} {lv' : List (Nat × Value)} (d : decode cc pc = .ok (.istore j, 2)) (hn : j < nL) (ks : List Nat) (hp : lv_pick ((j, Value.int x) :: lv.filter (fun z => !(z.1 == j) && !(z.1 + 1 == j && z.2.category == 2))) ks = lv') (kk : G s (pc + 2) lv' st) : G s pc lv (.int x :: st) := by
  obtain ⟨p, e, s0, m, args, below, meth, c, D, A, Q, rfl, F, hK, hA, r1, r2⟩ := hG
  intro H locs ls hP hD hS hl
  exact lv_istore F.1 F.2.1 d hl hn rfl (fun ls' h' => kk H locs ls' hP hD hS (lv_sub h' ks hp))
theorem g_iinc (hG : zc_R l own Lf q ca cc nL fr lo ret post G) {j : Nat} {n : Int} {x v : Int32} {lv' : List (Nat × Value)} (d : decode cc pc = .ok (.iinc j n, 3)) (k : Nat) (hk : lv[k]? = some (j, .int x)) (hv : x + Int32.ofInt n = v) (hn : j < nL) (ks : List Nat) (hp : lv_pick ((j, Value.int v) :: lv.filter (fun z => !(z.1 == j) && !(z.1 + 1 == j && z.2.category == 2))) ks = lv') (kk : G s (pc + 3) lv' st) : G s pc lv (st) := by
  obtain ⟨p, e, s0, m, args, below, meth, c, D, A, Q, rfl, F, hK, hA, r1, r2⟩ := hG
  intro H locs ls hP hD hS hl
  exact lv_iinc F.1 F.2.1 d hl hk hv hn rfl (fun ls' h' => kk H locs ls' hP hD hS (lv_sub h' ks hp))
theorem g_iadd (hG : zc_R l own Lf q ca cc nL fr lo ret post G) {x y z : Int32} (d : decode cc pc = .ok (.iadd, 1)) (hz : x + y = z) (k : G s (pc + 1) lv (.int z :: st)) : G s pc lv (.int y :: .int x :: st) := by
  obtain ⟨p, e, s0, m, args, below, meth, c, D, A, Q, rfl, F, hK, hA, r1, r2⟩ := hG
  intro H locs ls hP hD hS hl
  exact lv_iadd F.1 F.2.1 d (by rw [hz]; exact k H locs ls hP hD hS hl)
theorem g_isub (hG : zc_R l own Lf q ca cc nL fr lo ret post G) {x y z : Int32} (d : decode cc pc = .ok (.isub, 1)) (hz : x - y = z) (k : G s (pc + 1) lv (.int z :: st)) : G s pc lv (.int y :: .int x :: st) := by
  obtain ⟨p, e, s0, m, args, below, meth, c, D, A, Q, rfl, F, hK, hA, r1, r2⟩ := hG
  intro H locs ls hP hD hS hl
  exact lv_isub F.1 F.2.1 d (by rw [hz]; exact k H locs ls hP hD hS hl)
theorem g_iand (hG : zc_R l own Lf q ca cc nL fr lo ret post G) {x y z : Int32} (d : decode cc pc = .ok (.iand, 1)) (hz : x &&& y = z) (k : G s (pc + 1) lv (.int z :: st)) : G s pc lv (.int y :: .int x :: st) := by
  obtain ⟨p, e, s0, m, args, below, meth, c, D, A, Q, rfl, F, hK, hA, r1, r2⟩ := hG
  intro H locs ls hP hD hS hl
  exact lv_iand F.1 F.2.1 d (by rw [hz]; exact k H locs ls hP hD hS hl)
theorem g_ior (hG : zc_R l own Lf q ca cc nL fr lo ret post G) {x y z : Int32} (d : decode cc pc = .ok (.ior, 1)) (hz : x ||| y = z) (k : G s (pc + 1) lv (.int z :: st)) : G s pc lv (.int y :: .int x :: st) := by
  obtain ⟨p, e, s0, m, args, below, meth, c, D, A, Q, rfl, F, hK, hA, r1, r2⟩ := hG
  intro H locs ls hP hD hS hl
  exact lv_ior F.1 F.2.1 d (by rw [hz]; exact k H locs ls hP hD hS hl)
theorem g_ixor (hG : zc_R l own Lf q ca cc nL fr lo ret post G) {x y z : Int32} (d : decode cc pc = .ok (.ixor, 1)) (hz : x ^^^ y = z) (k : G s (pc + 1) lv (.int z :: st)) : G s pc lv (.int y :: .int x :: st) := by
  obtain ⟨p, e, s0, m, args, below, meth, c, D, A, Q, rfl, F, hK, hA, r1, r2⟩ := hG
  intro H locs ls hP hD hS hl
  exact lv_ixor F.1 F.2.1 d (by rw [hz]; exact k H locs ls hP hD hS hl)
theorem g_ishl (hG : zc_R l own Lf q ca cc nL fr lo ret post G) {x y z : Int32} (d : decode cc pc = .ok (.ishl, 1)) (hz : x <<< (y &&& 31) = z) (k : G s (pc + 1) lv (.int z :: st)) : G s pc lv (.int y :: .int x :: st) := by
  obtain ⟨p, e, s0, m, args, below, meth, c, D, A, Q, rfl, F, hK, hA, r1, r2⟩ := hG
  intro H locs ls hP hD hS hl
  exact lv_ishl F.1 F.2.1 d (by rw [hz]; exact k H locs ls hP hD hS hl)
theorem g_ishr (hG : zc_R l own Lf q ca cc nL fr lo ret post G) {x y z : Int32} (d : decode cc pc = .ok (.ishr, 1)) (hz : x >>> (y &&& 31) = z) (k : G s (pc + 1) lv (.int z :: st)) : G s pc lv (.int y :: .int x :: st) := by
  obtain ⟨p, e, s0, m, args, below, meth, c, D, A, Q, rfl, F, hK, hA, r1, r2⟩ := hG
  intro H locs ls hP hD hS hl
  exact lv_ishr F.1 F.2.1 d (by rw [hz]; exact k H locs ls hP hD hS hl)
theorem g_i2b (hG : zc_R l own Lf q ca cc nL fr lo ret post G) {x v : Int32} (d : decode cc pc = .ok (.i2b, 1)) (hv : x.toInt8.toInt32 = v) (k : G s (pc + 1) lv (.int v :: st)) : G s pc lv (.int x :: st) := by
  obtain ⟨p, e, s0, m, args, below, meth, c, D, A, Q, rfl, F, hK, hA, r1, r2⟩ := hG
  intro H locs ls hP hD hS hl
  exact lv_i2b F.1 F.2.1 d hv (k H locs ls hP hD hS hl)
theorem g_dup (hG : zc_R l own Lf q ca cc nL fr lo ret post G) {va : Value} (d : decode cc pc = .ok (.dup, 1)) (hva : va.category = 1) (k : G s (pc + 1) lv (va :: va :: st)) : G s pc lv (va :: st) := by
  obtain ⟨p, e, s0, m, args, below, meth, c, D, A, Q, rfl, F, hK, hA, r1, r2⟩ := hG
  intro H locs ls hP hD hS hl
  exact lv_dup F.1 F.2.1 d hva (k H locs ls hP hD hS hl)
theorem g_pop (hG : zc_R l own Lf q ca cc nL fr lo ret post G) {va : Value} (d : decode cc pc = .ok (.pop, 1)) (hva : va.category = 1) (k : G s (pc + 1) lv st) : G s pc lv (va :: st) := by
  obtain ⟨p, e, s0, m, args, below, meth, c, D, A, Q, rfl, F, hK, hA, r1, r2⟩ := hG
  intro H locs ls hP hD hS hl
  exact lv_pop F.1 F.2.1 d hva (k H locs ls hP hD hS hl)
theorem g_dup2 (hG : zc_R l own Lf q ca cc nL fr lo ret post G) {va vb : Value} (d : decode cc pc = .ok (.dup2, 1)) (hva : va.category = 1) (hvb : vb.category = 1) (k : G s (pc + 1) lv (va :: vb :: va :: vb :: st)) : G s pc lv (va :: vb :: st) := by
  obtain ⟨p, e, s0, m, args, below, meth, c, D, A, Q, rfl, F, hK, hA, r1, r2⟩ := hG
  intro H locs ls hP hD hS hl
  exact lv_dup2_11 F.1 F.2.1 d hva hvb (k H locs ls hP hD hS hl)
theorem g_goto (hG : zc_R l own Lf q ca cc nL fr lo ret post G) {off : Int} {tgt : Nat} (d : decode cc pc = .ok (.goto off, 3)) (ht : (pc : Int) + off = (tgt : Int)) (k : G s tgt lv st) : G s pc lv (st) := by
  obtain ⟨p, e, s0, m, args, below, meth, c, D, A, Q, rfl, F, hK, hA, r1, r2⟩ := hG
  intro H locs ls hP hD hS hl
  exact lv_goto F.1 F.2.1 d ht (k H locs ls hP hD hS hl)
theorem g_if_eq (hG : zc_R l own Lf q ca cc nL fr lo ret post G) {x : Int32} {off : Int} {tgt : Nat} (d : decode cc pc = .ok (.ifCond .eq off, 3)) (ht : (pc : Int) + off = (tgt : Int)) (kt : x = 0 → G s tgt lv st) (kf : ¬ (x = 0) → G s (pc + 3) lv st) : G s pc lv (.int x :: st) := by
  obtain ⟨p, e, s0, m, args, below, meth, c, D, A, Q, rfl, F, hK, hA, r1, r2⟩ := hG
  intro H locs ls hP hD hS hl
  exact lv_if_eq F.1 F.2.1 d ht (fun h => kt h H locs ls hP hD hS hl) (fun h => kf h H locs ls hP hD hS hl)
theorem g_if_ne (hG : zc_R l own Lf q ca cc nL fr lo ret post G) {x : Int32} {off : Int} {tgt : Nat} (d : decode cc pc = .ok (.ifCond .ne off, 3)) (ht : (pc : Int) + off = (tgt : Int)) (kt : ¬ x = 0 → G s tgt lv st) (kf : x = 0 → G s (pc + 3) lv st) : G s pc lv (.int x :: st) := by
  obtain ⟨p, e, s0, m, args, below, meth, c, D, A, Q, rfl, F, hK, hA, r1, r2⟩ := hG
  intro H locs ls hP hD hS hl
  exact lv_if_ne F.1 F.2.1 d ht (fun h => kt h H locs ls hP hD hS hl) (fun h => kf h H locs ls hP hD hS hl)
theorem g_if_lt (hG : zc_R l own Lf q ca cc nL fr lo ret post G) {x : Int32} {off : Int} {tgt : Nat} (d : decode cc pc = .ok (.ifCond .lt off, 3)) (ht : (pc : Int) + off = (tgt : Int)) (kt : x < 0 → G s tgt lv st) (kf : ¬ (x < 0) → G s (pc + 3) lv st) : G s pc lv (.int x :: st) := by
  obtain ⟨p, e, s0, m, args, below, meth, c, D, A, Q, rfl, F, hK, hA, r1, r2⟩ := hG
  intro H locs ls hP hD hS hl
  exact lv_if_lt F.1 F.2.1 d ht (fun h => kt h H locs ls hP hD hS hl) (fun h => kf h H locs ls hP hD hS hl)
theorem g_if_ge (hG : zc_R l own Lf q ca cc nL fr lo ret post G) {x : Int32} {off : Int} {tgt : Nat} (d : decode cc pc = .ok (.ifCond .ge off, 3)) (ht : (pc : Int) + off = (tgt : Int)) (kt : 0 ≤ x → G s tgt lv st) (kf : ¬ (0 ≤ x) → G s (pc + 3) lv st) : G s pc lv (.int x :: st) := by
  obtain ⟨p, e, s0, m, args, below, meth, c, D, A, Q, rfl, F, hK, hA, r1, r2⟩ := hG
  intro H locs ls hP hD hS hl
  exact lv_if_ge F.1 F.2.1 d ht (fun h => kt h H locs ls hP hD hS hl) (fun h => kf h H locs ls hP hD hS hl)
theorem g_if_gt (hG : zc_R l own Lf q ca cc nL fr lo ret post G) {x : Int32} {off : Int} {tgt : Nat} (d : decode cc pc = .ok (.ifCond .gt off, 3)) (ht : (pc : Int) + off = (tgt : Int)) (kt : 0 < x → G s tgt lv st) (kf : ¬ (0 < x) → G s (pc + 3) lv st) : G s pc lv (.int x :: st) := by
  obtain ⟨p, e, s0, m, args, below, meth, c, D, A, Q, rfl, F, hK, hA, r1, r2⟩ := hG
  intro H locs ls hP hD hS hl
  exact lv_if_gt F.1 F.2.1 d ht (fun h => kt h H locs ls hP hD hS hl) (fun h => kf h H locs ls hP hD hS hl)
theorem g_if_le (hG : zc_R l own Lf q ca cc nL fr lo ret post G) {x : Int32} {off : Int} {tgt : Nat} (d : decode cc pc = .ok (.ifCond .le off, 3)) (ht : (pc : Int) + off = (tgt : Int)) (kt : x ≤ 0 → G s tgt lv st) (kf : ¬ (x ≤ 0) → G s (pc + 3) lv st) : G s pc lv (.int x :: st) := by
  obtain ⟨p, e, s0, m, args, below, meth, c, D, A, Q, rfl, F, hK, hA, r1, r2⟩ := hG
  intro H locs ls hP hD hS hl
  exact lv_if_le F.1 F.2.1 d ht (fun h => kt h H locs ls hP hD hS hl) (fun h => kf h H locs ls hP hD hS hl)
theorem g_icmp_eq (hG : zc_R l own Lf q ca cc nL fr lo ret post G) {x y : Int32} {off : Int} {tgt : Nat} (d : decode cc pc = .ok (.if_icmp .eq off, 3)) (ht : (pc : Int) + off = (tgt : Int)) (kt : x = y → G s tgt lv st) (kf : ¬ (x = y) → G s (pc + 3) lv st) : G s pc lv (.int y :: .int x :: st) := by
  obtain ⟨p, e, s0, m, args, below, meth, c, D, A, Q, rfl, F, hK, hA, r1, r2⟩ := hG
  intro H locs ls hP hD hS hl
  exact lv_icmp_eq F.1 F.2.1 d ht (fun h => kt h H locs ls hP hD hS hl) (fun h => kf h H locs ls hP hD hS hl)
theorem g_icmp_ne (hG : zc_R l own Lf q ca cc nL fr lo ret post G) {x y : Int32} {off : Int} {tgt : Nat} (d : decode cc pc = .ok (.if_icmp .ne off, 3)) (ht : (pc : Int) + off = (tgt : Int)) (kt : ¬ x = y → G s tgt lv st) (kf : x = y → G s (pc + 3) lv st) : G s pc lv (.int y :: .int x :: st) := by
  obtain ⟨p, e, s0, m, args, below, meth, c, D, A, Q, rfl, F, hK, hA, r1, r2⟩ := hG
  intro H locs ls hP hD hS hl
  exact lv_icmp_ne F.1 F.2.1 d ht (fun h => kt h H locs ls hP hD hS hl) (fun h => kf h H locs ls hP hD hS hl)
theorem g_icmp_lt (hG : zc_R l own Lf q ca cc nL fr lo ret post G) {x y : Int32} {off : Int} {tgt : Nat} (d : decode cc pc = .ok (.if_icmp .lt off, 3)) (ht : (pc : Int) + off = (tgt : Int)) (kt : x < y → G s tgt lv st) (kf : ¬ (x < y) → G s (pc + 3) lv st) : G s pc lv (.int y :: .int x :: st) := by
  obtain ⟨p, e, s0, m, args, below, meth, c, D, A, Q, rfl, F, hK, hA, r1, r2⟩ := hG
  intro H locs ls hP hD hS hl
  exact lv_icmp_lt F.1 F.2.1 d ht (fun h => kt h H locs ls hP hD hS hl) (fun h => kf h H locs ls hP hD hS hl)
theorem g_icmp_ge (hG : zc_R l own Lf q ca cc nL fr lo ret post G) {x y : Int32} {off : Int} {tgt : Nat} (d : decode cc pc = .ok (.if_icmp .ge off, 3)) (ht : (pc : Int) + off = (tgt : Int)) (kt : y ≤ x → G s tgt lv st) (kf : ¬ (y ≤ x) → G s (pc + 3) lv st) : G s pc lv (.int y :: .int x :: st) := by
  obtain ⟨p, e, s0, m, args, below, meth, c, D, A, Q, rfl, F, hK, hA, r1, r2⟩ := hG
  intro H locs ls hP hD hS hl
  exact lv_icmp_ge F.1 F.2.1 d ht (fun h => kt h H locs ls hP hD hS hl) (fun h => kf h H locs ls hP hD hS hl)
theorem g_icmp_gt (hG : zc_R l own Lf q ca cc nL fr lo ret post G) {x y : Int32} {off : Int} {tgt : Nat} (d : decode cc pc = .ok (.if_icmp .gt off, 3)) (ht : (pc : Int) + off = (tgt : Int)) (kt : y < x → G s tgt lv st) (kf : ¬ (y < x) → G s (pc + 3) lv st) : G s pc lv (.int y :: .int x :: st) := by
  obtain ⟨p, e, s0, m, args, below, meth, c, D, A, Q, rfl, F, hK, hA, r1, r2⟩ := hG
  intro H locs ls hP hD hS hl
  exact lv_icmp_gt F.1 F.2.1 d ht (fun h => kt h H locs ls hP hD hS hl) (fun h => kf h H locs ls hP hD hS hl)
theorem g_icmp_le (hG : zc_R l own Lf q ca cc nL fr lo ret post G) {x y : Int32} {off : Int} {tgt : Nat} (d : decode cc pc = .ok (.if_icmp .le off, 3)) (ht : (pc : Int) + off = (tgt : Int)) (kt : x ≤ y → G s tgt lv st) (kf : ¬ (x ≤ y) → G s (pc + 3) lv st) : G s pc lv (.int y :: .int x :: st) := by
  obtain ⟨p, e, s0, m, args, below, meth, c, D, A, Q, rfl, F, hK, hA, r1, r2⟩ := hG
  intro H locs ls hP hD hS hl
  exact lv_icmp_le F.1 F.2.1 d ht (fun h => kt h H locs ls hP hD hS hl) (fun h => kf h H locs ls hP hD hS hl)
theorem g_iret (hG : zc_R l own Lf q ca cc nL fr lo ret post G) {x : Int32} {ty : FieldType} (hr : ret = some ty) (hn : narrow ty (.int x) = .int x) (d : decode cc pc = .ok (.ireturn, 1)) (hp : post (some (.int x)) s) : G s pc lv [.int x] := by
  obtain ⟨p, e, s0, m, args, below, meth, c, D, A, Q, -, F, hK, hA, r1, r2⟩ := hG
  exact r1 x s pc lv ty hr hn d hp
theorem g_vret (hG : zc_R l own Lf q ca cc nL fr lo ret post G) (hr : ret = none) (d : decode cc pc = .ok (.return_, 1)) (hp : post none s) : G s pc lv [] := by
  obtain ⟨p, e, s0, m, args, below, meth, c, D, A, Q, -, F, hK, hA, r1, r2⟩ := hG
  exact r2 s pc lv hr d hp
theorem g_sub (hG : zc_R l own Lf q ca cc nL fr lo ret post G) {lv' : List (Nat × Value)} (ks : List Nat) (h : lv_pick lv ks = lv') (k : G s pc lv' st) : G s pc lv st := by
  obtain ⟨p, e, s0, m, args, below, meth, c, D, A, Q, rfl, F, hK, hA, r1, r2⟩ := hG
  intro H locs ls hP hD hS hl
  exact k H locs ls hP hD hS (lv_sub hl ks h)
/-- another state with the same cells -/
theorem g_eqs {s' : zS} (h : s = s') (k : G s' pc lv st) : G s pc lv st := h ▸ k
theorem zc_upn {f : Nat → Nat} {v e : Nat} (hv : v < 2 ^ 31) : upd (fun j => nI (f j)) (nI v).toNatClampNeg (nI e) = fun j => nI (if j = v then e else f j) := by
  rw [nI_clamp hv]
  funext j
  by_cases h : j = v
  · simp [upd, h]
  · simp [upd, h]
theorem zc_upp {f : Nat → Nat} {v e : Nat} (hv : v < 2 ^ 31) : upd (fun j => pI (f j)) (nI v).toNatClampNeg (pI e) = fun j => pI (if j = v then e else f j) := by
  rw [nI_clamp hv]
  funext j
  by_cases h : j = v
  · simp [upd, h]
  · simp [upd, h]
theorem zc_b8n : ∀ n, n < 128 → (nI n).toInt8.toInt32 = nI n := by decide +kernel
theorem zc_b8p : ∀ n, n < 129 → (pI n).toInt8.toInt32 = pI n := by decide +kernel
theorem g_ild (hG : zc_R l own Lf q ca cc nL fr lo ret post G) (k : Nat) {a N : Nat} {cA : ClassId} {f : Nat → Nat} (he : (Lf q ca s)[k]? = some (a, .inl (cA, N, .inl (fun j => nI (f j))))) (ht : (zc_ty ca)[0]? = some (cA, .int)) {v : Nat} (hv : v < N) (hN : N < 2 ^ 31) (d : decode cc pc = .ok (.iaload, 1)) (kk : G s (pc + 1) lv (.int (nI (f v)) :: st)) : G s pc lv (.int (nI v) :: .ref a :: st) := by
  obtain ⟨p, e, s0, m, args, below, meth, c, D, A, Q, rfl, F, hK, hA, r1, r2⟩ := hG
  intro H locs ls hP hD hS hl
  refine va_iald F.1 F.2.1 hK hP k 0 he ht (vp_in_nI hv hN) d ?_
  rw [nI_clamp (by omega)]
  exact kk H locs ls hP hD hS hl
theorem g_bldn (hG : zc_R l own Lf q ca cc nL fr lo ret post G) (k : Nat) {a N : Nat} {cA : ClassId} {f : Nat → Nat} (he : (Lf q ca s)[k]? = some (a, .inl (cA, N, .inl (fun j => nI (f j))))) (ht : (zc_ty ca)[1]? = some (cA, .byte)) {v : Nat} (hv : v < N) (hN : N < 2 ^ 31) (d : decode cc pc = .ok (.baload, 1)) (kk : G s (pc + 1) lv (.int (nI (f v)) :: st)) : G s pc lv (.int (nI v) :: .ref a :: st) := by
  obtain ⟨p, e, s0, m, args, below, meth, c, D, A, Q, rfl, F, hK, hA, r1, r2⟩ := hG
  intro H locs ls hP hD hS hl
  refine va_bald F.1 F.2.1 hK hP k 1 he ht (vp_in_nI hv hN) d ?_
  rw [nI_clamp (by omega)]
  exact kk H locs ls hP hD hS hl
theorem g_bldp (hG : zc_R l own Lf q ca cc nL fr lo ret post G) (k : Nat) {a N : Nat} {cA : ClassId} {f : Nat → Nat} (he : (Lf q ca s)[k]? = some (a, .inl (cA, N, .inl (fun j => pI (f j))))) (ht : (zc_ty ca)[1]? = some (cA, .byte)) {v : Nat} (hv : v < N) (hN : N < 2 ^ 31) (d : decode cc pc = .ok (.baload, 1)) (kk : G s (pc + 1) lv (.int (pI (f v)) :: st)) : G s pc lv (.int (nI v) :: .ref a :: st) := by
  obtain ⟨p, e, s0, m, args, below, meth, c, D, A, Q, rfl, F, hK, hA, r1, r2⟩ := hG
  intro H locs ls hP hD hS hl
  refine va_bald F.1 F.2.1 hK hP k 1 he ht (vp_in_nI hv hN) d ?_
  rw [nI_clamp (by omega)]
  exact kk H locs ls hP hD hS hl
theorem g_ist (hG : zc_R l own Lf q ca cc nL fr lo ret post G) (k : Nat) {a N : Nat} {cA : ClassId} {f : Nat → Nat} (he : (Lf q ca s)[k]? = some (a, .inl (cA, N, .inl (fun j => nI (f j))))) (ht : (zc_ty ca)[0]? = some (cA, .int)) {v e : Nat} (hw : (Lf q ca s).set k (a, .inl (cA, N, .inl (fun j => nI (if j = v then e else f j)))) = Lf q ca (zc_st s k v e)) (hv : v < N) (hN : N < 2 ^ 31) (d : decode cc pc = .ok (.iastore, 1)) (kk : G (zc_st s k v e) (pc + 1) lv st) : G s pc lv (.int (nI e) :: .int (nI v) :: .ref a :: st) := by
  obtain ⟨p, ee, s0, m, args, below, meth, c, D, A, Q, rfl, F, hK, hA, r1, r2⟩ := hG
  intro H locs ls hP hD hS hl
  refine va_iast F.1 F.2.1 hK hP hD hS k 0 he ht (vp_in_nI hv hN) d ?_
  rw [zc_upn (by omega), hw]
  exact fun H1 locs1 hP1 hD1 hS1 => kk H1 locs1 ls hP1 hD1 hS1 hl
theorem g_bstn (hG : zc_R l own Lf q ca cc nL fr lo ret post G) (k : Nat) {a N : Nat} {cA : ClassId} {f : Nat → Nat} (he : (Lf q ca s)[k]? = some (a, .inl (cA, N, .inl (fun j => nI (f j))))) (ht : (zc_ty ca)[1]? = some (cA, .byte)) {v e : Nat} (hw : (Lf q ca s).set k (a, .inl (cA, N, .inl (fun j => nI (if j = v then e else f j)))) = Lf q ca (zc_st s k v e)) (hv : v < N) (hN : N < 2 ^ 31) (he8 : e < 128) (d : decode cc pc = .ok (.bastore, 1)) (kk : G (zc_st s k v e) (pc + 1) lv st) : G s pc lv (.int (nI e) :: .int (nI v) :: .ref a :: st) := by
  obtain ⟨p, ee, s0, m, args, below, meth, c, D, A, Q, rfl, F, hK, hA, r1, r2⟩ := hG
  intro H locs ls hP hD hS hl
  refine va_bast F.1 F.2.1 hK hP hD hS k 1 he ht (vp_in_nI hv hN) d ?_
  rw [vp_nar_byte, zc_b8n e he8, zc_upn (by omega), hw]
  exact fun H1 locs1 hP1 hD1 hS1 => kk H1 locs1 ls hP1 hD1 hS1 hl
theorem g_bstp (hG : zc_R l own Lf q ca cc nL fr lo ret post G) (k : Nat) {a N : Nat} {cA : ClassId} {f : Nat → Nat} (he : (Lf q ca s)[k]? = some (a, .inl (cA, N, .inl (fun j => pI (f j))))) (ht : (zc_ty ca)[1]? = some (cA, .byte)) {v e : Nat} (hw : (Lf q ca s).set k (a, .inl (cA, N, .inl (fun j => pI (if j = v then e else f j)))) = Lf q ca (zc_st s k v e)) (hv : v < N) (hN : N < 2 ^ 31) (he8 : e < 129) (d : decode cc pc = .ok (.bastore, 1)) (kk : G (zc_st s k v e) (pc + 1) lv st) : G s pc lv (.int (pI e) :: .int (nI v) :: .ref a :: st) := by
  obtain ⟨p, ee, s0, m, args, below, meth, c, D, A, Q, rfl, F, hK, hA, r1, r2⟩ := hG
  intro H locs ls hP hD hS hl
  refine va_bast F.1 F.2.1 hK hP hD hS k 1 he ht (vp_in_nI hv hN) d ?_
  rw [vp_nar_byte, zc_b8p e he8, zc_upp (by omega), hw]
  exact fun H1 locs1 hP1 hD1 hS1 => kk H1 locs1 ls hP1 hD1 hS1 hl
set_option maxHeartbeats 4000000 in
/-- a call of a method of the same object -/
theorem g_call (hG : zc_R l own Lf q ca cc nL fr lo ret post G) {y : MethodName} {b : ByteArray} {nL' fr' lo' : Nat} {ret' : Option FieldType} {As : List Value} {post' : Option Value → zS → Prop} (hM : zc_M l Lf y b nL' fr' lo' ret' As s post') {idx : Nat} (n : Nat) (h1 : Cond.methodLink own idx y ∈ lw_all) (h2 : Cond.instanceMethod y ∈ lw_all) (h3 : Cond.selects own y y ∈ lw_all) (h4 : Cond.initialized own ∈ lw_all) (h5 : Cond.code y b nL' ret' ∈ lw_all) (hd : y.cls = own ∧ y.cls ≠ "java/lang/invoke/MethodHandle" ∧ y.cls ≠ "java/lang/invoke/VarHandle" ∧ (parseMethodDescriptor y.desc).map (fun d => d.parameters.length) = some n) (hn : As.length = n) (hrm : fr' + 1 ≤ fr ∧ 8 + (nL' + 11) + lo' ≤ lo) {ci : Nat} {cq : vw_C} (hc : vwCl[ci]? = some cq) (hcq : cq.1 = own) {fs : List Value} (he : (Lf q ca s)[0]? = some (q 0, .inr (ci, fs)))
    {st0 : List Value} (rest : List Value) (hst : st0 = As.reverse ++ .ref (q 0) :: rest) (hcat : (rest.map fun v => v.category).sum ≤ 8) (d : decode cc pc = .ok (.invokevirtual idx, 3)) (kk : ∀ v s', post' v s' → G s' (pc + 3) lv (v.toList ++ rest)) : G s pc lv st0 := by
  subst hst
  obtain ⟨p, e, s0, m, args, below, meth, c, D, A, Q, rfl, F, hK, hA, r1, r2⟩ := hG
  intro H locs ls hP hD hS hl
  have hF2 : ∀ x, va_A (Lf q ca s) H.size x → A x := by
    intro x h
    rcases h with ⟨k, e, h⟩ | h
    · exact hD.2 k (x, e) h
    · exact hA x (Nat.le_trans hS.1 h)
  have hr := va_runV (g := F0 m pc ls (As.reverse ++ .ref (q 0) :: rest)) (As := As) (rest := rest) (b := q 0) (C := own) (cells := 0) (slots := 0) (locs := locs) (below := below) (e := e) (meth := meth) (H := H) F (hM D q ca H.size) (cwV n F.2.2.2.2 (lw_V h1 h2 h3 h4 h5) rfl rfl rfl hd (R := { frames := fr, cells := 0, slots := 0, locals := lo }) hrm) ⟨fun a U g mk z => by obtain ⟨q0, q1, qP, qK, qD⟩ := z; exact ⟨q0, q1, qP, va_K.moved (u := U) (U := U.calling g mk a) (Vm.Alike.refl U.vm) qK, qD⟩, hcq ▸ va_recv hK hP hc he, fun U hU hW => ⟨rfl, by rw [hU], by rw [hU]; exact hP, va_K.moved hW.alike hK, hD.weaken (fun _ _ _ _ => trivial)⟩⟩ rfl hn hl.1 rfl (lv_room hcat) d ⟨Nat.le_refl _, Nat.le_refl _⟩
  intro T hT X
  obtain ⟨v, st₀, t, T', L, h0, X', hL, e1, e2, ⟨⟨r, u, hv, hp, hb⟩, hz, hk⟩, stp⟩ := hr T hT X
  cases hv
  rw [h0] at hz hk
  obtain ⟨t2, a1, b1⟩ := kk v u hp T'.heap (locs ++ L) ls (by rw [e1]; exact hb.1) (hb.2.2.weaken (fun k z _ h => hF2 _ h))
    ⟨Nat.le_trans hS.1 (by rw [e1]; exact hz), fun x h1 h2 => by rw [e1, hk x (Nat.lt_of_lt_of_le h1 hS.1) (fun z => h2 (hF2 x z))]; exact hS.2.1 x h1 h2, fun x hx => by
      rcases List.mem_append.mp hx with h | h
      · exact hS.2.2 x h
      · exact hF2 _ (hL x h)⟩ hl T' rfl X'
  exact ⟨t2, stp t2 a1, b1⟩
end
section
variable {l : Launch} {q : Nat → Nat} {ca : Nat → ClassId} {cc : ByteArray} {nL fr lo : Nat} {ret : Option FieldType} {post : Option Value → zS → Prop} {G : zS → Nat → List (Nat × Value) → List Value → Prop} {s : zS} {pc : Nat} {lv : List (Nat × Value)} {st : List Value}
theorem x_get (hG : zc_R l RX0 zc_XL q ca cc nL fr lo ret post G) (k : Nat) (hk : k < 11) (hT : (TX0 k).1 = RX0) {index : Nat} (hlink : Cond.fieldLink RX0 index RX0 (TX0 k).2.1 (TX0 k).2.2.1 ∈ lw_all) {v : Value} (hv : (zc_xf q s)[k]? = some v) (d : decode cc pc = .ok (.getfield index, 3)) (kk : G s (pc + 3) lv (v :: st)) : G s pc lv (.ref (q 0) :: st) := by
  obtain ⟨p, e, s0, m, args, below, meth, c, D, A, Q, rfl, F, hK, hA, r1, r2⟩ := hG
  intro H locs ls hP hD hS hl
  exact va_get (ci := 0) (C := RX0) (T := TX0) (N := 11) F.1 F.2.1 F.2.2.2.2 in_X0 F.2.2.2.1 hK hP 0 rfl rfl k hk (F.2.2.2.2 _ hlink) (fun x h => by rw [hT] at h; exact h) hv d (kk H locs ls hP hD hS hl)
theorem m_get (hG : zc_R l RX1 zc_ML q ca cc nL fr lo ret post G) (k : Nat) (hk : k < 3) (hT : (TX1 k).1 = RX1) {index : Nat} (hlink : Cond.fieldLink RX1 index RX1 (TX1 k).2.1 (TX1 k).2.2.1 ∈ lw_all) {v : Value} (hv : (zc_mf q s)[k]? = some v) (d : decode cc pc = .ok (.getfield index, 3)) (kk : G s (pc + 3) lv (v :: st)) : G s pc lv (.ref (q 0) :: st) := by
  obtain ⟨p, e, s0, m, args, below, meth, c, D, A, Q, rfl, F, hK, hA, r1, r2⟩ := hG
  intro H locs ls hP hD hS hl
  exact va_get (ci := 1) (C := RX1) (T := TX1) (N := 3) F.1 F.2.1 F.2.2.2.2 in_X1 F.2.2.2.1 hK hP 0 rfl rfl k hk (F.2.2.2.2 _ hlink) (fun x h => by rw [hT] at h; exact h) hv d (kk H locs ls hP hD hS hl)
theorem x_putn (hG : zc_R l RX0 zc_XL q ca cc nL fr lo ret post G) {v : Nat} (d : decode cc pc = .ok (.putfield 42, 3)) (kk : G (zc_st s 0 0 v) (pc + 3) lv st) : G s pc lv (.int (nI v) :: .ref (q 0) :: st) := by
  obtain ⟨p, e, s0, m, args, below, meth, c, D, A, Q, rfl, F, hK, hA, r1, r2⟩ := hG
  intro H locs ls hP hD hS hl
  exact va_put (D := D) (ci := 0) (v := .int (nI v)) (ty := .int) (C := RX0) (T := TX0) (N := 11) F.1 F.2.1 F.2.2.2.2 in_X0 tyX0 tyX0_ok nmX0 F.2.2.2.1 hK hP hD hS 0 rfl rfl 0 (by decide) (F.2.2.2.2 _ q36) (fun _ h9 => h9) rfl (by decide +kernel) rfl rfl (Nat.le_of_ble_eq_true rfl) d (fun H1 locs1 hP1 hD1 hS1 => kk H1 locs1 ls hP1 hD1 hS1 hl)
theorem x_puta (hG : zc_R l RX0 zc_XL q ca cc nL fr lo ret post G) {v : Nat} (h01 : v = 0 ∨ v = 1) (d : decode cc pc = .ok (.putfield 38, 3)) (kk : G (zc_st s 0 1 v) (pc + 3) lv st) : G s pc lv (.int (nI v) :: .ref (q 0) :: st) := by
  obtain ⟨p, e, s0, m, args, below, meth, c, D, A, Q, rfl, F, hK, hA, r1, r2⟩ := hG
  intro H locs ls hP hD hS hl
  exact va_put (D := D) (ci := 0) (v := .int (nI v)) (ty := .boolean) (C := RX0) (T := TX0) (N := 11) F.1 F.2.1 F.2.2.2.2 in_X0 tyX0 tyX0_ok nmX0 F.2.2.2.1 hK hP hD hS 0 rfl rfl 3 (by decide) (F.2.2.2.2 _ q39) (fun _ h9 => h9) rfl (by decide +kernel) (by rcases h01 with rfl | rfl <;> rfl) (by rcases h01 with rfl | rfl <;> rfl) (Nat.le_of_ble_eq_true rfl) d (fun H1 locs1 hP1 hD1 hS1 => kk H1 locs1 ls hP1 hD1 hS1 hl)
theorem m_putn (hG : zc_R l RX1 zc_ML q ca cc nL fr lo ret post G) {v : Nat} (d : decode cc pc = .ok (.putfield 7, 3)) (kk : G (zc_st s 0 0 v) (pc + 3) lv st) : G s pc lv (.int (nI v) :: .ref (q 0) :: st) := by
  obtain ⟨p, e, s0, m, args, below, meth, c, D, A, Q, rfl, F, hK, hA, r1, r2⟩ := hG
  intro H locs ls hP hD hS hl
  exact va_put (D := D) (ci := 1) (v := .int (nI v)) (ty := .int) (C := RX1) (T := TX1) (N := 3) F.1 F.2.1 F.2.2.2.2 in_X1 tyX1 tyX1_ok nmX1 F.2.2.2.1 hK hP hD hS 0 rfl rfl 0 (by decide) (F.2.2.2.2 _ q183) (fun _ h9 => h9) rfl (by decide +kernel) rfl rfl (Nat.le_of_ble_eq_true rfl) d (fun H1 locs1 hP1 hD1 hS1 => kk H1 locs1 ls hP1 hD1 hS1 hl)
end
end
section
/-! numbers and bits for the walks (nx_and, nx_xor, s_l began as rows of BITS.to-paste) -/
theorem s_l : ∀ n, n < 32 → ((nI n &&& 31).toBitVec.smod 32).toNat = n := by decide +kernel
theorem nx_and (a b : Nat) : nI a &&& nI b = nI (a &&& b) := by
  apply Int32.toBitVec_inj.1
  show BitVec.ofNat 32 a &&& BitVec.ofNat 32 b = BitVec.ofNat 32 (a &&& b)
  apply BitVec.eq_of_getLsbD_eq
  intro i hi
  simp [hi]
theorem nx_or (a b : Nat) : nI a ||| nI b = nI (a ||| b) := by
  apply Int32.toBitVec_inj.1
  show BitVec.ofNat 32 a ||| BitVec.ofNat 32 b = BitVec.ofNat 32 (a ||| b)
  apply BitVec.eq_of_getLsbD_eq
  intro i hi
  simp [hi]
/-- a without b -/
def zb_dif (a b : Nat) : Nat := a ^^^ (a &&& b)
theorem zb_dif_bit (a b i : Nat) : (zb_dif a b).testBit i = (a.testBit i && !b.testBit i) := by
  unfold zb_dif
  rw [Nat.testBit_xor, Nat.testBit_and]
  cases a.testBit i <;> cases b.testBit i <;> rfl
theorem zb_dif_le (a b : Nat) : zb_dif a b ≤ a := by
  apply Nat.le_of_testBit
  intro i h
  rw [zb_dif_bit] at h
  cases h1 : a.testBit i
  · rw [h1] at h; simp at h
  · rfl
theorem nx_not (a b : Nat) : nI a &&& (nI b ^^^ (-1)) = nI (zb_dif a b) := by
  apply Int32.toBitVec_inj.1
  show BitVec.ofNat 32 a &&& (BitVec.ofNat 32 b ^^^ BitVec.allOnes 32) = BitVec.ofNat 32 (zb_dif a b)
  apply BitVec.eq_of_getLsbD_eq
  intro i hi
  rw [BitVec.getLsbD_and, BitVec.getLsbD_xor, BitVec.getLsbD_allOnes, BitVec.getLsbD_ofNat, BitVec.getLsbD_ofNat, BitVec.getLsbD_ofNat, zb_dif_bit]
  simp [hi]
theorem nx_shl1 : ∀ v, v < 31 → nI 1 <<< (nI v &&& 31) = nI (2 ^ v) := by decide +kernel
theorem nx_shr {a v : Nat} (ha : a < 2 ^ 31) (hv : v < 32) : nI a >>> (nI v &&& 31) = nI (a >>> v) := by
  rw [pk_shrN ha _ v (s_l v hv), Nat.shiftRight_eq_div_pow]
theorem zb_shr_le (a v : Nat) : a >>> v ≤ a := by
  rw [Nat.shiftRight_eq_div_pow]
  exact Nat.div_le_self _ _
theorem nx_tb (a v : Nat) : nI (a >>> v) &&& nI 1 = pB (a.testBit v = true) := by
  rw [nx_and, Nat.and_one_is_mod]
  have h : a.testBit v = decide ((a >>> v) % 2 = 1) := by
    rw [Nat.testBit_eq_decide_div_mod_eq, Nat.shiftRight_eq_div_pow]
  by_cases h1 : (a >>> v) % 2 = 1
  · rw [pB_t (by rw [h]; exact decide_eq_true h1), h1]; rfl
  · rw [pB_f (by rw [h, decide_eq_false h1]; exact Bool.noConfusion), show (a >>> v) % 2 = 0 by omega]; rfl
theorem nx_addb (a : Nat) (t : Bool) : nI a + pB (t = true) = nI (a + t.toNat) := by
  cases t
  · rw [pB_f Bool.noConfusion]; exact nI_add a 0
  · rw [pB_t rfl]; exact nI_add a 1
theorem zb_lt31 {a n : Nat} (h : a < 2 ^ n) (hn : n ≤ 31) : a < 2 ^ 31 := Nat.lt_of_lt_of_le h (Nat.pow_le_pow_right (by decide) hn)
theorem zb_and_lt {a b n : Nat} (h : a < n) : a &&& b < n := Nat.lt_of_le_of_lt Nat.and_le_left h
theorem zb_and_lt' {a b n : Nat} (h : b < n) : a &&& b < n := Nat.lt_of_le_of_lt Nat.and_le_right h
theorem zb_pow {v n : Nat} (h : v < n) : 2 ^ v < 2 ^ n := Nat.pow_lt_pow_right (by decide) h
theorem zb_pow31 {v : Nat} (h : v < 31) : 2 ^ v < 2 ^ 31 := zb_pow h
theorem zb_pow_pos (v : Nat) : 1 ≤ 2 ^ v := Nat.one_le_two_pow
theorem zr_1 {P : Prop} (h : P) : some (Value.int (nI 1)) = some (Value.int (pB P)) := by rw [pB_t h]; rfl
theorem zr_0 {P : Prop} (h : ¬ P) : some (Value.int (nI 0)) = some (Value.int (pB P)) := by rw [pB_f h]; rfl
theorem pI_lt {k : Nat} (hk : k < 2 ^ 31) : pI k < 0 ↔ k = 0 := by
  cases k with
  | zero => exact ⟨fun _ => rfl, fun _ => by decide⟩
  | succ k =>
    rw [pI_s]
    exact ⟨fun h => absurd h (nI_pos (by omega)), fun h => absurd h (by omega)⟩
theorem pI_ge {k : Nat} (hk : k < 2 ^ 31) : 0 ≤ pI k ↔ 0 < k := by
  cases k with
  | zero => exact ⟨fun h => absurd h (by decide), fun h => absurd h (by decide)⟩
  | succ k =>
    rw [pI_s]
    exact ⟨fun _ => by omega, fun _ => nI_pos' (by omega)⟩
theorem pI_of {k : Nat} (h : 0 < k) : pI k = nI (k - 1) := by
  obtain ⟨j, rfl⟩ : ∃ j, k = j + 1 := ⟨k - 1, by omega⟩
  rw [pI_s]; rfl
def zc_ar (s : zS) (k : Nat) (f : Nat → Nat) : zS := fun k' => if k' = k then f else s k'
def zc_up (f : Nat → Nat) (j v : Nat) : Nat → Nat := fun i => if i = j then v else f i
theorem zc_up_s (f : Nat → Nat) (j v : Nat) : zc_up f j v j = v := if_pos rfl
theorem zc_up_n {f : Nat → Nat} {i j v : Nat} (h : i ≠ j) : zc_up f j v i = f i := if_neg h
theorem zc_st_ar (s : zS) (k : Nat) (f : Nat → Nat) (j v : Nat) : zc_st (zc_ar s k f) k j v = zc_ar s k (zc_up f j v) := by
  funext k' j'
  by_cases h : k' = k <;> simp [zc_st, zc_ar, zc_up, h]
theorem zc_st_arC {k k2 : Nat} (h : k2 ≠ k) (s : zS) (f : Nat → Nat) (j v : Nat) : zc_st (zc_ar s k2 f) k j v = zc_ar (zc_st s k j v) k2 f := by
  funext k' j'
  by_cases h1 : k' = k
  · subst h1
    have h2 : ¬ k' = k2 := fun e => h e.symm
    simp [zc_st, zc_ar, h2]
  · by_cases h2 : k' = k2
    · simp [zc_st, zc_ar, h, h2]
    · simp [zc_st, zc_ar, h1, h2]
theorem zc_st_eq (s : zS) (k j v : Nat) : zc_st s k j v = zc_ar s k (zc_up (s k) j v) := by
  funext k' j'
  by_cases h : k' = k <;> simp [zc_st, zc_ar, zc_up, h]
theorem zc_ar_ar (s : zS) (k : Nat) (f g : Nat → Nat) : zc_ar (zc_ar s k f) k g = zc_ar s k g := by
  funext k'
  by_cases h : k' = k <;> simp [zc_ar, h]
theorem zc_ar_self (s : zS) (k : Nat) : zc_ar s k (s k) = s := by
  funext k'
  by_cases h : k' = k <;> simp [zc_ar, h]
section
variable {l : Launch} {own : String} {Lf : (Nat → Nat) → (Nat → ClassId) → zS → va_W} {q : Nat → Nat} {ca : Nat → ClassId} {cc : ByteArray} {nL fr lo : Nat} {ret : Option FieldType} {post : Option Value → zS → Prop} {G : zS → Nat → List (Nat × Value) → List Value → Prop} {s : zS} {pc : Nat} {lv : List (Nat × Value)} {st : List Value}
theorem g_n_eq (hG : zc_R l own Lf q ca cc nL fr lo ret post G) {a b : Nat} {off : Int} {tgt : Nat} (d : decode cc pc = .ok (.if_icmp .eq off, 3)) (ht : (pc : Int) + off = (tgt : Int)) (ha : a < 2 ^ 31) (hb : b < 2 ^ 31) (kt : a = b → G s tgt lv st) (kf : ¬ (a = b) → G s (pc + 3) lv st) : G s pc lv (.int (nI b) :: .int (nI a) :: st) :=
  g_icmp_eq hG d ht (fun h => kt ((nI_eq ha hb).mp h)) (fun h => kf (fun z => h ((nI_eq ha hb).mpr z)))
theorem g_n_ne (hG : zc_R l own Lf q ca cc nL fr lo ret post G) {a b : Nat} {off : Int} {tgt : Nat} (d : decode cc pc = .ok (.if_icmp .ne off, 3)) (ht : (pc : Int) + off = (tgt : Int)) (ha : a < 2 ^ 31) (hb : b < 2 ^ 31) (kt : ¬ a = b → G s tgt lv st) (kf : a = b → G s (pc + 3) lv st) : G s pc lv (.int (nI b) :: .int (nI a) :: st) :=
  g_icmp_ne hG d ht (fun h => kt (fun z => h ((nI_eq ha hb).mpr z))) (fun h => kf ((nI_eq ha hb).mp h))
theorem g_n_lt (hG : zc_R l own Lf q ca cc nL fr lo ret post G) {a b : Nat} {off : Int} {tgt : Nat} (d : decode cc pc = .ok (.if_icmp .lt off, 3)) (ht : (pc : Int) + off = (tgt : Int)) (ha : a < 2 ^ 31) (hb : b < 2 ^ 31) (kt : a < b → G s tgt lv st) (kf : ¬ (a < b) → G s (pc + 3) lv st) : G s pc lv (.int (nI b) :: .int (nI a) :: st) :=
  g_icmp_lt hG d ht (fun h => kt ((nI_ltI ha hb).mp h)) (fun h => kf (fun z => h ((nI_ltI ha hb).mpr z)))
theorem g_n_ge (hG : zc_R l own Lf q ca cc nL fr lo ret post G) {a b : Nat} {off : Int} {tgt : Nat} (d : decode cc pc = .ok (.if_icmp .ge off, 3)) (ht : (pc : Int) + off = (tgt : Int)) (ha : a < 2 ^ 31) (hb : b < 2 ^ 31) (kt : b ≤ a → G s tgt lv st) (kf : ¬ (b ≤ a) → G s (pc + 3) lv st) : G s pc lv (.int (nI b) :: .int (nI a) :: st) :=
  g_icmp_ge hG d ht (fun h => kt ((nI_leI hb ha).mp h)) (fun h => kf (fun z => h ((nI_leI hb ha).mpr z)))
theorem g_n_gt (hG : zc_R l own Lf q ca cc nL fr lo ret post G) {a b : Nat} {off : Int} {tgt : Nat} (d : decode cc pc = .ok (.if_icmp .gt off, 3)) (ht : (pc : Int) + off = (tgt : Int)) (ha : a < 2 ^ 31) (hb : b < 2 ^ 31) (kt : b < a → G s tgt lv st) (kf : ¬ (b < a) → G s (pc + 3) lv st) : G s pc lv (.int (nI b) :: .int (nI a) :: st) :=
  g_icmp_gt hG d ht (fun h => kt ((nI_ltI hb ha).mp h)) (fun h => kf (fun z => h ((nI_ltI hb ha).mpr z)))
theorem g_n_le (hG : zc_R l own Lf q ca cc nL fr lo ret post G) {a b : Nat} {off : Int} {tgt : Nat} (d : decode cc pc = .ok (.if_icmp .le off, 3)) (ht : (pc : Int) + off = (tgt : Int)) (ha : a < 2 ^ 31) (hb : b < 2 ^ 31) (kt : a ≤ b → G s tgt lv st) (kf : ¬ (a ≤ b) → G s (pc + 3) lv st) : G s pc lv (.int (nI b) :: .int (nI a) :: st) :=
  g_icmp_le hG d ht (fun h => kt ((nI_leI ha hb).mp h)) (fun h => kf (fun z => h ((nI_leI ha hb).mpr z)))
theorem g_z_eq (hG : zc_R l own Lf q ca cc nL fr lo ret post G) {a : Nat} {off : Int} {tgt : Nat} (d : decode cc pc = .ok (.ifCond .eq off, 3)) (ht : (pc : Int) + off = (tgt : Int)) (ha : a < 2 ^ 31) (kt : a = 0 → G s tgt lv st) (kf : ¬ (a = 0) → G s (pc + 3) lv st) : G s pc lv (.int (nI a) :: st) :=
  g_if_eq hG d ht (fun h => kt ((nI_eq ha (by decide : 0 < 2 ^ 31)).mp h)) (fun h => kf (fun z => h ((nI_eq ha (by decide : 0 < 2 ^ 31)).mpr z)))
theorem g_z_ne (hG : zc_R l own Lf q ca cc nL fr lo ret post G) {a : Nat} {off : Int} {tgt : Nat} (d : decode cc pc = .ok (.ifCond .ne off, 3)) (ht : (pc : Int) + off = (tgt : Int)) (ha : a < 2 ^ 31) (kt : ¬ a = 0 → G s tgt lv st) (kf : a = 0 → G s (pc + 3) lv st) : G s pc lv (.int (nI a) :: st) :=
  g_if_ne hG d ht (fun h => kt (fun z => h ((nI_eq ha (by decide : 0 < 2 ^ 31)).mpr z))) (fun h => kf ((nI_eq ha (by decide : 0 < 2 ^ 31)).mp h))
theorem g_z_gt (hG : zc_R l own Lf q ca cc nL fr lo ret post G) {a : Nat} {off : Int} {tgt : Nat} (d : decode cc pc = .ok (.ifCond .gt off, 3)) (ht : (pc : Int) + off = (tgt : Int)) (ha : a < 2 ^ 31) (kt : 0 < a → G s tgt lv st) (kf : ¬ (0 < a) → G s (pc + 3) lv st) : G s pc lv (.int (nI a) :: st) :=
  g_if_gt hG d ht (fun h => kt ((nI_ltI (by decide : 0 < 2 ^ 31) ha).mp h)) (fun h => kf (fun z => h ((nI_ltI (by decide : 0 < 2 ^ 31) ha).mpr z)))
theorem g_z_le (hG : zc_R l own Lf q ca cc nL fr lo ret post G) {a : Nat} {off : Int} {tgt : Nat} (d : decode cc pc = .ok (.ifCond .le off, 3)) (ht : (pc : Int) + off = (tgt : Int)) (ha : a < 2 ^ 31) (kt : a ≤ 0 → G s tgt lv st) (kf : ¬ (a ≤ 0) → G s (pc + 3) lv st) : G s pc lv (.int (nI a) :: st) :=
  g_if_le hG d ht (fun h => kt ((nI_leI ha (by decide : 0 < 2 ^ 31)).mp h)) (fun h => kf (fun z => h ((nI_leI ha (by decide : 0 < 2 ^ 31)).mpr z)))
theorem g_b_eq (hG : zc_R l own Lf q ca cc nL fr lo ret post G) {P : Prop} {off : Int} {tgt : Nat} (d : decode cc pc = .ok (.ifCond .eq off, 3)) (ht : (pc : Int) + off = (tgt : Int)) (kt : ¬ P → G s tgt lv st) (kf : P → G s (pc + 3) lv st) : G s pc lv (.int (pB P) :: st) :=
  g_if_eq hG d ht (fun h => kt (pB_0.mp h)) (fun h => kf (Classical.not_not.mp (fun z => h (pB_0.mpr z))))
theorem g_b_ne (hG : zc_R l own Lf q ca cc nL fr lo ret post G) {P : Prop} {off : Int} {tgt : Nat} (d : decode cc pc = .ok (.ifCond .ne off, 3)) (ht : (pc : Int) + off = (tgt : Int)) (kt : P → G s tgt lv st) (kf : ¬ P → G s (pc + 3) lv st) : G s pc lv (.int (pB P) :: st) :=
  g_if_ne hG d ht (fun h => kt (Classical.not_not.mp (fun z => h (pB_0.mpr z)))) (fun h => kf (pB_0.mp h))
theorem g_b1_ne (hG : zc_R l own Lf q ca cc nL fr lo ret post G) {P : Prop} {off : Int} {tgt : Nat} (d : decode cc pc = .ok (.if_icmp .ne off, 3)) (ht : (pc : Int) + off = (tgt : Int)) (kt : ¬ P → G s tgt lv st) (kf : P → G s (pc + 3) lv st) : G s pc lv (.int (nI 1) :: .int (pB P) :: st) :=
  g_icmp_ne hG d ht (fun h => kt (fun z => h (pB_t z))) (fun h => kf (pB_1.mp h))
theorem g_bb_eq (hG : zc_R l own Lf q ca cc nL fr lo ret post G) {P Q : Prop} {off : Int} {tgt : Nat} (d : decode cc pc = .ok (.if_icmp .eq off, 3)) (ht : (pc : Int) + off = (tgt : Int)) (kt : (P ↔ Q) → G s tgt lv st) (kf : ¬ (P ↔ Q) → G s (pc + 3) lv st) : G s pc lv (.int (pB Q) :: .int (pB P) :: st) :=
  g_icmp_eq hG d ht (fun h => kt ⟨fun z => pB_1.mp (h ▸ pB_t z), fun z => pB_1.mp (h ▸ pB_t z)⟩) (fun h => kf (fun z => h (pB_c z)))
theorem g_p_lt (hG : zc_R l own Lf q ca cc nL fr lo ret post G) {a : Nat} {off : Int} {tgt : Nat} (d : decode cc pc = .ok (.ifCond .lt off, 3)) (ht : (pc : Int) + off = (tgt : Int)) (ha : a < 2 ^ 31) (kt : a = 0 → G s tgt lv st) (kf : 0 < a → G s (pc + 3) lv st) : G s pc lv (.int (pI a) :: st) :=
  g_if_lt hG d ht (fun h => kt ((pI_lt ha).mp h)) (fun h => kf (Nat.pos_of_ne_zero (fun z => h ((pI_lt ha).mpr z))))
theorem g_p_ge (hG : zc_R l own Lf q ca cc nL fr lo ret post G) {a : Nat} {off : Int} {tgt : Nat} (d : decode cc pc = .ok (.ifCond .ge off, 3)) (ht : (pc : Int) + off = (tgt : Int)) (ha : a < 2 ^ 31) (kt : 0 < a → G s tgt lv st) (kf : a = 0 → G s (pc + 3) lv st) : G s pc lv (.int (pI a) :: st) :=
  g_if_ge hG d ht (fun h => kt ((pI_ge ha).mp h)) (fun h => kf (Nat.eq_zero_of_not_pos (fun z => h ((pI_ge ha).mpr z))))
theorem g_as {x y : Int32} (h : x = y) (k : G s pc lv (.int y :: st)) : G s pc lv (.int x :: st) := h ▸ k
end
end
section
/-! THE WORDS OF THE CONTRACTS: sets are numbers by their bits; un v: what is below v -/
def zb_cnt (a : Nat) : Nat → Nat
  | 0 => 0
  | k + 1 => zb_cnt a k + (a.testBit k).toNat
def zb_mk (f : Nat → Bool) : Nat → Nat
  | 0 => 0
  | k + 1 => zb_mk f k ||| (if f k then 2 ^ k else 0)
def zp_is (n : Nat) (x : Int32) : Prop := ∃ a, a < 2 ^ n ∧ x = nI a
def zp_rel (un : Nat → Nat) (u v : Nat) : Prop := (un v).testBit u = true ∨ (un u).testBit v = true
def zp_uni (n : Nat) (un : Nat → Nat) (a : Nat) (w : Prop) : Prop := ∀ v, v < n → ∀ u, u < v → a.testBit u = true → a.testBit v = true → (zp_rel un u v ↔ w)
def zp_sub (p a : Nat) : Prop := ∀ i, p.testBit i = true → a.testBit i = true
def zp_Mx (n : Nat) (un : Nat → Nat) (a : Nat) (w : Prop) (k : Nat) : Prop := (∃ p, zp_sub p a ∧ zp_uni n un p w ∧ zb_cnt p 10 = k) ∧ ∀ p, zp_sub p a → zp_uni n un p w → zb_cnt p 10 ≤ k
def zp_all (un : Nat → Nat) (a : Nat) : Nat → Nat
  | 0 => a
  | k + 1 => if a.testBit k then zp_all un a k ||| un k else zp_all un a k
def zp_tr (n : Nat) (un : Nat → Nat) (b : Nat) : Nat := zb_mk (fun c => (un (n - 1 - c)).testBit (n - 1 - b)) n
def zp_bel (n : Nat) (un : Nat → Nat) (x y : Int32) : Prop := ∃ u v, u < n ∧ v < n ∧ x = nI u ∧ y = nI v ∧ (un v).testBit u = true
/-- a is a union of k disjoint chains -/
def zp_Cov (n : Nat) (un : Nat → Nat) : Nat → Nat → Prop
  | 0, a => a = 0
  | k + 1, a => ∃ c r, c ≠ 0 ∧ c &&& r = 0 ∧ c ||| r = a ∧ zp_uni n un c True ∧ zp_Cov n un k r
/-- a largest antichain of all -/
def zp_La (n : Nat) (un : Nat → Nat) (a : Nat) : Prop := a < 2 ^ n ∧ zp_uni n un a False ∧ zp_Mx n un (2 ^ n - 1) False (zb_cnt a 10)
def zp_Bw (n : Nat) (un : Nat → Nat) (a b : Nat) : Prop := ∀ v, v < n → a.testBit v = true → ¬ b.testBit v = true → ∃ w, w < n ∧ b.testBit w = true ∧ (un w).testBit v = true
def zp_Av (n : Nat) (un : Nat → Nat) (a b : Nat) : Prop := ∀ v, v < n → a.testBit v = true → ¬ b.testBit v = true → ¬ (un v &&& b) = 0
/-- the lowest (low) or highest largest antichain -/
def zp_Ex (n : Nat) (un : Nat → Nat) (low : Prop) (a : Nat) : Prop := zp_La n un a ∧ ∀ b, zp_La n un b → (low → zp_Bw n un a b) ∧ (¬ low → zp_Av n un a b)
def zm_ok (m : zS) : Prop := m 0 0 ≤ 10 ∧ ∀ j, j < m 0 0 → m 1 j < 1024
theorem zp_is_iff {n : Nat} (hn : n ≤ 30) (x : Int32) : zp_is n x ↔ ¬ x < 0 ∧ ¬ nI (2 ^ n) ≤ x := by
  have h2 : 2 ^ n < 2 ^ 31 := zb_pow (by omega)
  constructor
  · rintro ⟨a, ha, rfl⟩
    exact ⟨nI_pos (by omega), nI_ge ha h2⟩
  · rintro ⟨h0, h1⟩
    obtain ⟨j, hj, rfl⟩ := nI_of h0
    refine ⟨j, ?_, rfl⟩
    rw [nI_leI h2 hj] at h1
    omega
theorem zb_mk_bit (f : Nat → Bool) (n i : Nat) : (zb_mk f n).testBit i = (decide (i < n) && f i) := by
  induction n with
  | zero => simp [zb_mk]
  | succ n ih =>
    rw [zb_mk, Nat.testBit_or, ih]
    by_cases h : i = n
    · subst h
      cases hf : f i
      · simp [hf]
      · simp [hf, Nat.testBit_two_pow_self]
    · have h2 : (if f n = true then 2 ^ n else 0).testBit i = false := by
        cases f n
        · simp
        · simp only [if_true]
          exact Nat.testBit_two_pow_of_ne (fun e => h e.symm)
      rw [h2, Bool.or_false]
      by_cases h3 : i < n
      · simp [h3, show i < n + 1 by omega]
      · simp [h3, show ¬ i < n + 1 by omega]
theorem zp_all_t {un : Nat → Nat} {a k : Nat} (h : a.testBit k = true) : zp_all un a (k + 1) = zp_all un a k ||| un k := by
  rw [zp_all, if_pos h]
theorem zp_all_f {un : Nat → Nat} {a k : Nat} (h : ¬ a.testBit k = true) : zp_all un a (k + 1) = zp_all un a k := by
  rw [zp_all, if_neg h]
theorem zb_lt_of {a n : Nat} (h : ∀ i, a.testBit i = true → i < n) : a < 2 ^ n := by
  apply Nat.lt_pow_two_of_testBit
  intro i hi
  cases hb : a.testBit i
  · rfl
  · have := h i hb
    omega
theorem zb_bit_lt {a n i : Nat} (ha : a < 2 ^ n) (h : a.testBit i = true) : i < n := by
  apply Classical.byContradiction
  intro hi
  rw [Nat.testBit_lt_two_pow (Nat.lt_of_lt_of_le ha (Nat.pow_le_pow_right (by decide) (Nat.not_lt.mp hi)))] at h
  exact Bool.noConfusion h
theorem zp_sub_le {p a : Nat} (h : zp_sub p a) : p ≤ a := Nat.le_of_testBit h
/-- the next smaller part of a set -/
theorem zb_step : ∀ (a part p : Nat), zp_sub part a → zp_sub p a → p < part → p ≤ (part - 1) &&& a := by
  intro a
  induction a using Nat.strongRecOn with
  | ind a ih =>
    intro part p h1 h2 hp
    by_cases ha : a = 0
    · have := zp_sub_le h1
      omega
    have e1 := Nat.div_add_mod part 2
    have e2 := Nat.div_add_mod a 2
    have e3 := Nat.div_add_mod p 2
    have t : ∀ x i : Nat, (x / 2).testBit i = x.testBit (i + 1) := fun x i => by rw [Nat.testBit_succ]
    have g1 : zp_sub (part / 2) (a / 2) := fun i hi => by rw [t] at hi ⊢; exact h1 _ hi
    have g2 : zp_sub (p / 2) (a / 2) := fun i hi => by rw [t] at hi ⊢; exact h2 _ hi
    have b : ∀ x : Nat, x.testBit 0 = decide (x % 2 = 1) := fun x => Nat.testBit_zero x
    have ax : ∀ x : Nat, x &&& a = 2 * ((x / 2) &&& (a / 2)) + (x % 2) * (a % 2) := by
      intro x
      have q := Nat.div_add_mod (x &&& a) 2
      rw [Nat.and_div_two] at q
      have q2 : (x &&& a) % 2 = (x % 2) * (a % 2) := by
        have r := Nat.testBit_and x a 0
        rw [b, b, b] at r
        rcases Nat.mod_two_eq_zero_or_one x with hx | hx <;> rcases Nat.mod_two_eq_zero_or_one a with hy | hy <;> rcases Nat.mod_two_eq_zero_or_one (x &&& a) with hz | hz <;> simp [hx, hy, hz] at r ⊢
      omega
    rw [ax]
    by_cases hb : part % 2 = 1
    · have k1 : (part - 1) / 2 = part / 2 := by omega
      have k2 : (part / 2) &&& (a / 2) = part / 2 := by
        apply Nat.eq_of_testBit_eq
        intro i
        rw [Nat.testBit_and]
        cases hq : (part / 2).testBit i
        · rfl
        · rw [g1 i hq]; rfl
      rw [k1, k2]
      omega
    · have k1 : (part - 1) / 2 = part / 2 - 1 := by omega
      have k3 : (part - 1) % 2 = 1 := by omega
      rw [k1, k3]
      have k4 := ih (a / 2) (by omega) (part / 2) (p / 2) g1 g2
      have k5 : p % 2 ≤ a % 2 := by
        rcases Nat.mod_two_eq_zero_or_one p with hx | hx
        · omega
        · have := h2 0 (by rw [b]; exact decide_eq_true hx)
          rw [b] at this
          have := of_decide_eq_true this
          omega
      by_cases k6 : p / 2 < part / 2
      · have := k4 k6
        omega
      · omega
theorem zb_cnt_0 (k : Nat) : zb_cnt 0 k = 0 := by
  induction k with
  | zero => rfl
  | succ k ih => rw [zb_cnt, ih]; simp
theorem zb_cnt_le (a k : Nat) : zb_cnt a k ≤ k := by
  induction k with
  | zero => exact Nat.le_refl _
  | succ k ih =>
    rw [zb_cnt]
    have : (a.testBit k).toNat ≤ 1 := Bool.toNat_le _
    omega
theorem zp_uni_0 (n : Nat) (un : Nat → Nat) (w : Prop) : zp_uni n un 0 w := by
  intro v _ u _ h
  simp at h
theorem zp_sub_refl (a : Nat) : zp_sub a a := fun _ h => h
theorem zp_sub_0 (a : Nat) : zp_sub 0 a := by
  intro i h
  simp at h
end
section
set_option maxRecDepth 100000
theorem zb_cnt_t {a k : Nat} (h : a.testBit k = true) : zb_cnt a (k + 1) = zb_cnt a k + 1 := by rw [zb_cnt, h]; rfl
theorem zb_cnt_f {a k : Nat} (h : ¬ a.testBit k = true) : zb_cnt a (k + 1) = zb_cnt a k := by
  rw [zb_cnt, Bool.eq_false_iff.mpr h]; rfl
theorem zp_t0 : nI 0 = pB False := (pB_f (fun h => h)).symm
theorem zp_t1 : nI 1 = pB True := (pB_t trivial).symm
set_option maxHeartbeats 4000000 in
/-- in(a, j): bit j of a -/
theorem mM_in (l : Launch) (s : zS) (a j : Nat) (ha : a < 2 ^ 31) (hj : j < 32) : zc_M l zc_ML yX1_in cX1_in 3 0 0 (some .boolean) [.int (nI a), .int (nI j)] s (fun v s' => v = some (.int (pB (a.testBit j = true))) ∧ s = s') := by
  refine zc_M.of (own := RX1) rfl rfl (fun _ => Nat.le_of_ble_eq_true rfl) ?_
  intro q ca G hG
  show G s 0 [(0, .ref (q 0)), (1, .int (nI a)), (2, .int (nI j))] []
  refine g_iload_n hG dX1_in_0 rfl 1 rfl ?_
  refine g_iload_n hG dX1_in_1 rfl 2 rfl ?_
  refine g_ishr (z := nI (a >>> j)) hG dX1_in_2 (nx_shr (by omega) (by omega)) ?_
  refine g_iconst (v := nI 1) hG dX1_in_3 rfl ?_
  refine g_iand (z := pB (a.testBit j = true)) hG dX1_in_4 (nx_tb _ _) ?_
  refine g_iconst (v := nI 1) hG dX1_in_5 rfl ?_
  refine g_b1_ne (tgt := 13) hG dX1_in_6 (by decide) (fun h => ?_) (fun h => ?_)
  · refine g_iconst (v := nI 0) hG dX1_in_13 rfl ?_
    exact g_iret hG rfl (rfl) dX1_in_14 (⟨zr_0 h, rfl⟩)
  · refine g_iconst (v := nI 1) hG dX1_in_9 rfl ?_
    refine g_goto (tgt := 14) hG dX1_in_10 (by decide) ?_
    exact g_iret hG rfl (rfl) dX1_in_14 (⟨zr_1 h, rfl⟩)
set_option maxHeartbeats 4000000 in
/-- isSet(x) -/
theorem mM_isSet (l : Launch) (s : zS) (x : Int32) (hn : s 0 0 ≤ 10) : zc_M l zc_ML yX1_isSet cX1_isSet 2 0 0 (some .boolean) [.int x] s (fun v s' => v = some (.int (pB (zp_is (s 0 0) x))) ∧ s = s') := by
  refine zc_M.of (own := RX1) rfl rfl (fun _ => Nat.le_of_ble_eq_true rfl) ?_
  intro q ca G hG
  show G s 0 [(0, .ref (q 0)), (1, .int x)] []
  refine g_iload_n hG dX1_isSet_0 rfl 1 rfl ?_
  refine g_if_lt (tgt := 18) hG dX1_isSet_1 (by decide) (fun h => ?_) (fun h => ?_)
  · refine g_iconst (v := nI 0) hG dX1_isSet_18 rfl ?_
    exact g_iret hG rfl (rfl) dX1_isSet_19 (⟨zr_0 (fun z => ((zp_is_iff (by omega) x).mp z).1 h), rfl⟩)
  · refine g_iload_n hG dX1_isSet_4 rfl 1 rfl ?_
    refine g_iconst (v := nI 1) hG dX1_isSet_5 rfl ?_
    refine g_aload_n hG dX1_isSet_6 rfl 0 rfl ?_
    refine m_get (s := s) (v := .int (nI (s 0 0))) hG 0 (by decide) rfl q183 rfl dX1_isSet_7 ?_
    refine g_ishl (z := nI (2 ^ (s 0 0))) hG dX1_isSet_10 (nx_shl1 (s 0 0) (by omega)) ?_
    refine g_icmp_ge (tgt := 18) hG dX1_isSet_11 (by decide) (fun h2 => ?_) (fun h2 => ?_)
    · refine g_iconst (v := nI 0) hG dX1_isSet_18 rfl ?_
      exact g_iret hG rfl (rfl) dX1_isSet_19 (⟨zr_0 (fun z => ((zp_is_iff (by omega) x).mp z).2 h2), rfl⟩)
    · refine g_iconst (v := nI 1) hG dX1_isSet_14 rfl ?_
      refine g_goto (tgt := 19) hG dX1_isSet_15 (by decide) ?_
      exact g_iret hG rfl (rfl) dX1_isSet_19 (⟨zr_1 ((zp_is_iff (by omega) x).mpr ⟨h, h2⟩), rfl⟩)
set_option maxHeartbeats 4000000 in
/-- sizeOf(a) -/
theorem mM_sizeOf (l : Launch) (s : zS) (a : Nat) (ha : a < 2 ^ 31) : zc_M l zc_ML yX1_sizeOf cX1_sizeOf 4 1 22 (some .int) [.int (nI a)] s (fun v s' => v = some (.int (nI (zb_cnt a 10))) ∧ s = s') := by
  refine zc_M.of (own := RX1) rfl rfl (fun _ => Nat.le_of_ble_eq_true rfl) ?_
  intro q ca G hG
  show G s 0 [(0, .ref (q 0)), (1, .int (nI a))] []
  have lp : ∀ (k : Nat) (i c : Nat), i ≤ 10 → 11 ≤ i + k → c = zb_cnt a i → G s 4 [(0, .ref (q 0)), (1, .int (nI a)), (2, .int (nI c)), (3, .int (nI i))] [] := by
    intro k
    induction k with
    | zero => intros; omega
    | succ k ih =>
      intro i c hi hk hc
      refine g_iload_n hG dX1_sizeOf_4 rfl 3 rfl ?_
      refine g_bipush (v := nI 10) hG dX1_sizeOf_5 (by decide) ?_
      refine g_n_ge (tgt := 28) hG dX1_sizeOf_7 (by decide) (by omega) (by omega) (fun h1 => ?_) (fun h1 => ?_)
      · refine g_iload_n hG dX1_sizeOf_28 rfl 2 rfl ?_
        exact g_iret hG rfl (rfl) dX1_sizeOf_29 (⟨by rw [hc, show i = 10 by omega], rfl⟩)
      · refine g_aload_n hG dX1_sizeOf_10 rfl 0 rfl ?_
        refine g_iload_n hG dX1_sizeOf_11 rfl 1 rfl ?_
        refine g_iload_n hG dX1_sizeOf_12 rfl 3 rfl ?_
        refine g_call hG (mM_in l s a i ha (by omega)) 2 q201 q203 qs15 q27 q204 (by decide +kernel) rfl ⟨by decide, by decide⟩ (ci := 1) rfl rfl rfl [] rfl (by simp [Value.category]) dX1_sizeOf_13 ?_
        rintro _ _ ⟨rfl, rfl⟩
        show G s 16 [(0, .ref (q 0)), (1, .int (nI a)), (2, .int (nI c)), (3, .int (nI i))] [.int (pB (a.testBit i = true))]
        refine g_b_eq (tgt := 22) hG dX1_sizeOf_16 (by decide) (fun h2 => ?_) (fun h2 => ?_)
        · refine g_iinc (v := nI (i + 1)) (lv' := [(0, .ref (q 0)), (1, .int (nI a)), (2, .int (nI c)), (3, .int (nI (i + 1)))]) hG dX1_sizeOf_22 3 rfl (nI_add _ _) (by decide) [1, 2, 3, 0] rfl ?_
          refine g_goto (tgt := 4) hG dX1_sizeOf_25 (by decide) ?_
          exact ih (i + 1) c (by omega) (by omega) (by rw [hc, zb_cnt_f h2])
        · refine g_iinc (v := nI (c + 1)) (lv' := [(0, .ref (q 0)), (1, .int (nI a)), (2, .int (nI (c + 1))), (3, .int (nI i))]) hG dX1_sizeOf_19 2 rfl (nI_add _ _) (by decide) [1, 2, 0, 3] rfl ?_
          refine g_iinc (v := nI (i + 1)) (lv' := [(0, .ref (q 0)), (1, .int (nI a)), (2, .int (nI (c + 1))), (3, .int (nI (i + 1)))]) hG dX1_sizeOf_22 3 rfl (nI_add _ _) (by decide) [1, 2, 3, 0] rfl ?_
          refine g_goto (tgt := 4) hG dX1_sizeOf_25 (by decide) ?_
          exact ih (i + 1) (c + 1) (by omega) (by omega) (by rw [hc, zb_cnt_t h2])
  refine g_iconst (v := nI 0) hG dX1_sizeOf_0 rfl ?_
  refine g_istore_n (lv' := [(0, .ref (q 0)), (1, .int (nI a)), (2, .int (nI 0))]) hG dX1_sizeOf_1 rfl (by decide) [1, 2, 0] rfl ?_
  refine g_iconst (v := nI 0) hG dX1_sizeOf_2 rfl ?_
  refine g_istore_n (lv' := [(0, .ref (q 0)), (1, .int (nI a)), (2, .int (nI 0)), (3, .int (nI 0))]) hG dX1_sizeOf_3 rfl (by decide) [1, 2, 3, 0] rfl ?_
  exact lp 11 0 0 (by omega) (by omega) rfl
set_option maxHeartbeats 4000000 in
/-- size() -/
theorem mM_size (l : Launch) (s : zS) : zc_M l zc_ML yX1_size cX1_size 1 0 0 (some .int) [] s (fun v s' => v = some (.int (nI (s 0 0))) ∧ s = s') := by
  refine zc_M.of (own := RX1) rfl rfl (fun _ => Nat.le_of_ble_eq_true rfl) ?_
  intro q ca G hG
  show G s 0 [(0, .ref (q 0))] []
  refine g_aload_n hG dX1_size_0 rfl 0 rfl ?_
  refine m_get (s := s) (v := .int (nI (s 0 0))) hG 0 (by decide) rfl q183 rfl dX1_size_1 ?_
  exact g_iret hG rfl (rfl) dX1_size_4 (⟨rfl, rfl⟩)
set_option maxHeartbeats 4000000 in
/-- add(x) -/
theorem mM_add (l : Launch) (s : zS) (x : Int32) (hm : zm_ok s) : zc_M l zc_ML yX1_add cX1_add 4 1 22 (some .int) [.int x] s (fun v s' => (s 0 0 = 10 ∧ v = some (.int (-2)) ∧ s = s') ∨ (s 0 0 < 10 ∧ ¬ zp_is (s 0 0) x ∧ v = some (.int (-1)) ∧ s = s') ∨ (s 0 0 < 10 ∧ ∃ a, a < 2 ^ s 0 0 ∧ x = nI a ∧ v = some (.int (nI (s 0 0 + 1))) ∧ s' = zc_st (zc_st s 1 (s 0 0) (zp_all (s 1) a (s 0 0))) 0 0 (s 0 0 + 1))) := by
  refine zc_M.of (own := RX1) rfl rfl (fun _ => Nat.le_of_ble_eq_true rfl) ?_
  intro q ca G hG
  show G s 0 [(0, .ref (q 0)), (1, .int x)] []
  obtain ⟨hn, hu⟩ := hm
  refine g_aload_n hG dX1_add_0 rfl 0 rfl ?_
  refine m_get (s := s) (v := .int (nI (s 0 0))) hG 0 (by decide) rfl q183 rfl dX1_add_1 ?_
  refine g_bipush (v := nI 10) hG dX1_add_4 (by decide) ?_
  refine g_n_ne (tgt := 12) hG dX1_add_6 (by decide) (by omega) (by omega) (fun h1 => ?_) (fun h1 => ?_)
  · refine g_aload_n hG dX1_add_12 rfl 0 rfl ?_
    refine g_iload_n hG dX1_add_13 rfl 1 rfl ?_
    refine g_call hG (mM_isSet l s x hn) 1 q197 q199 qs14 q27 q200 (by decide +kernel) rfl ⟨by decide, by decide⟩ (ci := 1) rfl rfl rfl [] rfl (by simp [Value.category]) dX1_add_14 ?_
    rintro _ _ ⟨rfl, rfl⟩
    show G s 17 [(0, .ref (q 0)), (1, .int x)] [.int (pB (zp_is (s 0 0) x))]
    refine g_b_ne (tgt := 22) hG dX1_add_17 (by decide) (fun h2 => ?_) (fun h2 => ?_)
    · obtain ⟨a, ha, rfl⟩ := h2
      have ha31 := zb_lt31 ha (by omega)
      have lp : ∀ (k : Nat) (i al : Nat), i ≤ s 0 0 → s 0 0 + 1 ≤ i + k → al = zp_all (s 1) a i → G s 26 [(0, .ref (q 0)), (1, .int (nI a)), (2, .int (nI al)), (3, .int (nI i))] [] := by
        intro k
        induction k with
        | zero => intros; omega
        | succ k ih =>
          intro i al hi hk hal
          refine g_iload_n hG dX1_add_26 rfl 3 rfl ?_
          refine g_aload_n hG dX1_add_27 rfl 0 rfl ?_
          refine m_get (s := s) (v := .int (nI (s 0 0))) hG 0 (by decide) rfl q183 rfl dX1_add_28 ?_
          refine g_n_ge (tgt := 58) hG dX1_add_31 (by decide) (by omega) (by omega) (fun h3 => ?_) (fun h3 => ?_)
          · obtain rfl : i = s 0 0 := by omega
            refine g_aload_n hG dX1_add_58 rfl 0 rfl ?_
            refine m_get (s := s) (v := .ref (q 1)) hG 1 (by decide) rfl q184 rfl dX1_add_59 ?_
            refine g_aload_n hG dX1_add_62 rfl 0 rfl ?_
            refine m_get (s := s) (v := .int (nI (s 0 0))) hG 0 (by decide) rfl q183 rfl dX1_add_63 ?_
            refine g_iload_n hG dX1_add_66 rfl 2 rfl ?_
            refine g_ist (s := s) (f := s 1) (v := s 0 0) (e := al) hG 1 rfl rfl rfl (by omega) (by decide) dX1_add_67 ?_
            refine g_aload_n hG dX1_add_68 rfl 0 rfl ?_
            refine g_dup hG dX1_add_69 rfl ?_
            refine m_get (s := zc_st s 1 (s 0 0) al) (v := .int (nI (s 0 0))) hG 0 (by decide) rfl q183 rfl dX1_add_70 ?_
            refine g_iconst (v := nI 1) hG dX1_add_73 rfl ?_
            refine g_iadd (z := nI ((s 0 0) + 1)) hG dX1_add_74 (nI_add _ _) ?_
            refine m_putn hG dX1_add_75 ?_
            refine g_aload_n hG dX1_add_78 rfl 0 rfl ?_
            refine m_get (s := zc_st (zc_st s 1 (s 0 0) al) 0 0 ((s 0 0) + 1)) (v := .int (nI ((s 0 0) + 1))) hG 0 (by decide) rfl q183 rfl dX1_add_79 ?_
            exact g_iret hG rfl (rfl) dX1_add_82 (Or.inr (Or.inr ⟨by omega, a, ha, rfl, rfl, by rw [hal]⟩))
          · refine g_aload_n hG dX1_add_34 rfl 0 rfl ?_
            refine g_iload_n hG dX1_add_35 rfl 1 rfl ?_
            refine g_iload_n hG dX1_add_36 rfl 3 rfl ?_
            refine g_call hG (mM_in l s a i ha31 (by omega)) 2 q201 q203 qs15 q27 q204 (by decide +kernel) rfl ⟨by decide, by decide⟩ (ci := 1) rfl rfl rfl [] rfl (by simp [Value.category]) dX1_add_37 ?_
            rintro _ _ ⟨rfl, rfl⟩
            show G s 40 [(0, .ref (q 0)), (1, .int (nI a)), (2, .int (nI al)), (3, .int (nI i))] [.int (pB (a.testBit i = true))]
            refine g_b_eq (tgt := 52) hG dX1_add_40 (by decide) (fun h4 => ?_) (fun h4 => ?_)
            · refine g_iinc (v := nI (i + 1)) (lv' := [(0, .ref (q 0)), (1, .int (nI a)), (2, .int (nI al)), (3, .int (nI (i + 1)))]) hG dX1_add_52 3 rfl (nI_add _ _) (by decide) [1, 2, 3, 0] rfl ?_
              refine g_goto (tgt := 26) hG dX1_add_55 (by decide) ?_
              exact ih (i + 1) al (by omega) (by omega) (by rw [hal, zp_all_f h4])
            · refine g_iload_n hG dX1_add_43 rfl 2 rfl ?_
              refine g_aload_n hG dX1_add_44 rfl 0 rfl ?_
              refine m_get (s := s) (v := .ref (q 1)) hG 1 (by decide) rfl q184 rfl dX1_add_45 ?_
              refine g_iload_n hG dX1_add_48 rfl 3 rfl ?_
              refine g_ild (s := s) (f := s 1) (v := i) hG 1 rfl rfl (by omega) (by decide) dX1_add_49 ?_
              refine g_ior (z := nI (al ||| (s 1 i))) hG dX1_add_50 (nx_or _ _) ?_
              refine g_istore_n (lv' := [(0, .ref (q 0)), (1, .int (nI a)), (2, .int (nI (al ||| (s 1 i)))), (3, .int (nI i))]) hG dX1_add_51 rfl (by decide) [1, 2, 0, 3] rfl ?_
              refine g_iinc (v := nI (i + 1)) (lv' := [(0, .ref (q 0)), (1, .int (nI a)), (2, .int (nI (al ||| (s 1 i)))), (3, .int (nI (i + 1)))]) hG dX1_add_52 3 rfl (nI_add _ _) (by decide) [1, 2, 3, 0] rfl ?_
              refine g_goto (tgt := 26) hG dX1_add_55 (by decide) ?_
              exact g_sub (lv' := [(0, .ref (q 0)), (1, .int (nI a)), (2, .int (nI (al ||| s 1 i))), (3, .int (nI (i + 1)))]) hG [0, 1, 2, 3] (rfl) (ih (i + 1) (al ||| s 1 i) (by omega) (by omega) (by rw [hal, zp_all_t h4]))
      refine g_iload_n hG dX1_add_22 rfl 1 rfl ?_
      refine g_istore_n (lv' := [(0, .ref (q 0)), (1, .int (nI a)), (2, .int (nI a))]) hG dX1_add_23 rfl (by decide) [1, 2, 0] rfl ?_
      refine g_iconst (v := nI 0) hG dX1_add_24 rfl ?_
      refine g_istore_n (lv' := [(0, .ref (q 0)), (1, .int (nI a)), (2, .int (nI a)), (3, .int (nI 0))]) hG dX1_add_25 rfl (by decide) [1, 2, 3, 0] rfl ?_
      exact lp (s 0 0 + 1) 0 a (by omega) (by omega) rfl
    · refine g_iconst (v := -1) hG dX1_add_20 rfl ?_
      exact g_iret hG rfl (rfl) dX1_add_21 (Or.inr (Or.inl ⟨by omega, h2, rfl, rfl⟩))
  · refine g_bipush (v := (-2)) hG dX1_add_9 (by decide) ?_
    exact g_iret hG rfl (rfl) dX1_add_11 (Or.inl ⟨by omega, rfl, rfl⟩)
set_option maxHeartbeats 4000000 in
/-- removeLast() -/
theorem mM_removeLast (l : Launch) (s : zS) (hn : s 0 0 ≤ 10) : zc_M l zc_ML yX1_removeLast cX1_removeLast 1 0 0 (some .int) [] s (fun v s' => (s 0 0 = 0 ∧ v = some (.int (-1)) ∧ s = s') ∨ (0 < s 0 0 ∧ v = some (.int (nI (s 0 0 - 1))) ∧ s' = zc_st s 0 0 (s 0 0 - 1))) := by
  refine zc_M.of (own := RX1) rfl rfl (fun _ => Nat.le_of_ble_eq_true rfl) ?_
  intro q ca G hG
  show G s 0 [(0, .ref (q 0))] []
  refine g_aload_n hG dX1_removeLast_0 rfl 0 rfl ?_
  refine m_get (s := s) (v := .int (nI (s 0 0))) hG 0 (by decide) rfl q183 rfl dX1_removeLast_1 ?_
  refine g_z_ne (tgt := 9) hG dX1_removeLast_4 (by decide) (by omega) (fun h => ?_) (fun h => ?_)
  · refine g_aload_n hG dX1_removeLast_9 rfl 0 rfl ?_
    refine g_dup hG dX1_removeLast_10 rfl ?_
    refine m_get (s := s) (v := .int (nI (s 0 0))) hG 0 (by decide) rfl q183 rfl dX1_removeLast_11 ?_
    refine g_iconst (v := nI 1) hG dX1_removeLast_14 rfl ?_
    refine g_isub (z := nI ((s 0 0) - 1)) hG dX1_removeLast_15 (pk_sub (by omega)) ?_
    refine m_putn hG dX1_removeLast_16 ?_
    refine g_aload_n hG dX1_removeLast_19 rfl 0 rfl ?_
    refine m_get (s := zc_st s 0 0 ((s 0 0) - 1)) (v := .int (nI ((s 0 0) - 1))) hG 0 (by decide) rfl q183 rfl dX1_removeLast_20 ?_
    exact g_iret hG rfl (rfl) dX1_removeLast_23 (Or.inr ⟨by omega, rfl, rfl⟩)
  · refine g_iconst (v := -1) hG dX1_removeLast_7 rfl ?_
    exact g_iret hG rfl (rfl) dX1_removeLast_8 (Or.inl ⟨by omega, rfl, rfl⟩)
set_option maxHeartbeats 4000000 in
/-- below(x, y) -/
theorem mM_below (l : Launch) (s : zS) (x y : Int32) (hm : zm_ok s) : zc_M l zc_ML yX1_below cX1_below 3 1 22 (some .boolean) [.int x, .int y] s (fun v s' => v = some (.int (pB (zp_bel (s 0 0) (s 1) x y))) ∧ s = s') := by
  refine zc_M.of (own := RX1) rfl rfl (fun _ => Nat.le_of_ble_eq_true rfl) ?_
  intro q ca G hG
  show G s 0 [(0, .ref (q 0)), (1, .int x), (2, .int y)] []
  obtain ⟨hn, hu⟩ := hm
  refine g_iload_n hG dX1_below_0 rfl 1 rfl ?_
  refine g_if_lt (tgt := 42) hG dX1_below_1 (by decide) (fun h1 => ?_) (fun h1 => ?_)
  · refine g_iconst (v := nI 0) hG dX1_below_42 rfl ?_
    exact g_iret hG rfl (rfl) dX1_below_43 (⟨zr_0 (fun ⟨u2, v2, e1, e2, e3, e4, e5⟩ => by rw [e3] at h1; exact nI_pos (by omega) h1), rfl⟩)
  · refine g_iload_n hG dX1_below_4 rfl 1 rfl ?_
    refine g_aload_n hG dX1_below_5 rfl 0 rfl ?_
    refine m_get (s := s) (v := .int (nI (s 0 0))) hG 0 (by decide) rfl q183 rfl dX1_below_6 ?_
    refine g_icmp_ge (tgt := 42) hG dX1_below_9 (by decide) (fun h2 => ?_) (fun h2 => ?_)
    · refine g_iconst (v := nI 0) hG dX1_below_42 rfl ?_
      exact g_iret hG rfl (rfl) dX1_below_43 (⟨zr_0 (fun ⟨u2, v2, e1, e2, e3, e4, e5⟩ => by rw [e3, nI_leI (by omega) (by omega)] at h2; omega), rfl⟩)
    · obtain ⟨u, hu31, rfl⟩ := nI_of h1
      have hun : u < s 0 0 := by
        rw [nI_leI (by omega) hu31] at h2
        omega
      refine g_iload_n hG dX1_below_12 rfl 2 rfl ?_
      refine g_if_lt (tgt := 42) hG dX1_below_13 (by decide) (fun h3 => ?_) (fun h3 => ?_)
      · refine g_iconst (v := nI 0) hG dX1_below_42 rfl ?_
        exact g_iret hG rfl (rfl) dX1_below_43 (⟨zr_0 (fun ⟨u2, v2, e1, e2, e3, e4, e5⟩ => by rw [e4] at h3; exact nI_pos (by omega) h3), rfl⟩)
      · refine g_iload_n hG dX1_below_16 rfl 2 rfl ?_
        refine g_aload_n hG dX1_below_17 rfl 0 rfl ?_
        refine m_get (s := s) (v := .int (nI (s 0 0))) hG 0 (by decide) rfl q183 rfl dX1_below_18 ?_
        refine g_icmp_ge (tgt := 42) hG dX1_below_21 (by decide) (fun h4 => ?_) (fun h4 => ?_)
        · refine g_iconst (v := nI 0) hG dX1_below_42 rfl ?_
          exact g_iret hG rfl (rfl) dX1_below_43 (⟨zr_0 (fun ⟨u2, v2, e1, e2, e3, e4, e5⟩ => by rw [e4, nI_leI (by omega) (by omega)] at h4; omega), rfl⟩)
        · obtain ⟨z, hz31, rfl⟩ := nI_of h3
          have hzn : z < s 0 0 := by
            rw [nI_leI (by omega) hz31] at h4
            omega
          have hz8 := hu z hzn
          refine g_aload_n hG dX1_below_24 rfl 0 rfl ?_
          refine g_aload_n hG dX1_below_25 rfl 0 rfl ?_
          refine m_get (s := s) (v := .ref (q 1)) hG 1 (by decide) rfl q184 rfl dX1_below_26 ?_
          refine g_iload_n hG dX1_below_29 rfl 2 rfl ?_
          refine g_ild (s := s) (f := s 1) (v := z) hG 1 rfl rfl (by omega) (by decide) dX1_below_30 ?_
          refine g_iload_n hG dX1_below_31 rfl 1 rfl ?_
          refine g_call hG (mM_in l s (s 1 z) u (by omega) (by omega)) 2 q201 q203 qs15 q27 q204 (by decide +kernel) rfl ⟨by decide, by decide⟩ (ci := 1) rfl rfl rfl [] rfl (by simp [Value.category]) dX1_below_32 ?_
          rintro _ _ ⟨rfl, rfl⟩
          show G s 35 [(0, .ref (q 0)), (1, .int (nI u)), (2, .int (nI z))] [.int (pB ((s 1 z).testBit u = true))]
          refine g_b_eq (tgt := 42) hG dX1_below_35 (by decide) (fun h5 => ?_) (fun h5 => ?_)
          · refine g_iconst (v := nI 0) hG dX1_below_42 rfl ?_
            exact g_iret hG rfl (rfl) dX1_below_43 (⟨zr_0 (fun ⟨u2, v2, e1, e2, e3, e4, e5⟩ => h5 (by rw [(nI_eq hu31 (by omega)).mp e3, (nI_eq hz31 (by omega)).mp e4]; exact e5)), rfl⟩)
          · refine g_iconst (v := nI 1) hG dX1_below_38 rfl ?_
            refine g_goto (tgt := 43) hG dX1_below_39 (by decide) ?_
            exact g_iret hG rfl (rfl) dX1_below_43 (⟨zr_1 ⟨u, z, hun, hzn, rfl, rfl, h5⟩, rfl⟩)
set_option maxHeartbeats 4000000 in
/-- uniform(a, wt) -/
theorem mM_uniform (l : Launch) (s : zS) (a : Nat) (wt : Prop) (ha : a < 2 ^ 31) (hm : zm_ok s) : zc_M l zc_ML yX1_uniform cX1_uniform 6 1 22 (some .boolean) [.int (nI a), .int (pB wt)] s (fun v s' => v = some (.int (pB (zp_uni (s 0 0) (s 1) a wt))) ∧ s = s') := by
  refine zc_M.of (own := RX1) rfl rfl (fun _ => Nat.le_of_ble_eq_true rfl) ?_
  intro q ca G hG
  show G s 0 [(0, .ref (q 0)), (1, .int (nI a)), (2, .int (pB wt))] []
  obtain ⟨hn, hu⟩ := hm
  have lp : ∀ (k : Nat) (z : Nat), z ≤ s 0 0 → s 0 0 + 1 ≤ z + k → (∀ v, v < z → ∀ u, u < v → a.testBit u = true → a.testBit v = true → (zp_rel (s 1) u v ↔ wt)) → G s 2 [(0, .ref (q 0)), (1, .int (nI a)), (2, .int (pB wt)), (3, .int (nI z))] [] := by
    intro k
    induction k with
    | zero => intros; omega
    | succ k ih =>
      intro z hz hk hI
      refine g_iload_n hG dX1_uniform_2 rfl 3 rfl ?_
      refine g_aload_n hG dX1_uniform_3 rfl 0 rfl ?_
      refine m_get (s := s) (v := .int (nI (s 0 0))) hG 0 (by decide) rfl q183 rfl dX1_uniform_4 ?_
      refine g_n_ge (tgt := 95) hG dX1_uniform_7 (by decide) (by omega) (by omega) (fun h1 => ?_) (fun h1 => ?_)
      · refine g_iconst (v := nI 1) hG dX1_uniform_95 rfl ?_
        exact g_iret hG rfl (rfl) dX1_uniform_96 (⟨zr_1 (fun v hv => hI v (by omega)), rfl⟩)
      · have lp2 : ∀ (k2 : Nat) (u : Nat), u ≤ z → z + 1 ≤ u + k2 → (∀ u2, u2 < u → a.testBit u2 = true → a.testBit z = true → (zp_rel (s 1) u2 z ↔ wt)) → G s 13 [(0, .ref (q 0)), (1, .int (nI a)), (2, .int (pB wt)), (3, .int (nI z)), (4, .int (nI u))] [] := by
          intro k2
          induction k2 with
          | zero => intros; omega
          | succ k2 ih2 =>
            intro u hu2 hk2 hJ
            refine g_iload hG dX1_uniform_13 4 rfl ?_
            refine g_iload_n hG dX1_uniform_15 rfl 3 rfl ?_
            refine g_n_ge (tgt := 89) hG dX1_uniform_16 (by decide) (by omega) (by omega) (fun h3 => ?_) (fun h3 => ?_)
            · refine g_iinc (v := nI (z + 1)) (lv' := [(0, .ref (q 0)), (1, .int (nI a)), (2, .int (pB wt)), (3, .int (nI (z + 1))), (4, .int (nI u))]) hG dX1_uniform_89 3 rfl (nI_add _ _) (by decide) [1, 2, 3, 0, 4] rfl ?_
              refine g_goto (tgt := 2) hG dX1_uniform_92 (by decide) ?_
              exact g_sub (lv' := [(0, .ref (q 0)), (1, .int (nI a)), (2, .int (pB wt)), (3, .int (nI (z + 1)))]) hG [0, 1, 2, 3] (rfl) (ih (z + 1) (by omega) (by omega) (fun v hv => by
                by_cases e : v = z
                · subst e; exact fun u2 hu2 => hJ u2 (by omega)
                · exact hI v (by omega)))
            · have hz8 := hu z (by omega)
              have hu8 := hu u (by omega)
              have tl : G s 54 [(0, .ref (q 0)), (1, .int (nI a)), (2, .int (pB wt)), (3, .int (nI z)), (4, .int (nI u))] [.int (pB (zp_rel (s 1) u z))] := by
                refine g_istore (lv' := [(0, .ref (q 0)), (1, .int (nI a)), (2, .int (pB wt)), (3, .int (nI z)), (4, .int (nI u)), (5, .int (pB (zp_rel (s 1) u z)))]) hG dX1_uniform_54 (by decide) [1, 2, 3, 4, 5, 0] rfl ?_
                refine g_aload_n hG dX1_uniform_56 rfl 0 rfl ?_
                refine g_iload_n hG dX1_uniform_57 rfl 1 rfl ?_
                refine g_iload hG dX1_uniform_58 4 rfl ?_
                refine g_call hG (mM_in l s a u ha (by omega)) 2 q201 q203 qs15 q27 q204 (by decide +kernel) rfl ⟨by decide, by decide⟩ (ci := 1) rfl rfl rfl [] rfl (by simp [Value.category]) dX1_uniform_60 ?_
                rintro _ _ ⟨rfl, rfl⟩
                show G s 63 [(0, .ref (q 0)), (1, .int (nI a)), (2, .int (pB wt)), (3, .int (nI z)), (4, .int (nI u)), (5, .int (pB (zp_rel (s 1) u z)))] [.int (pB (a.testBit u = true))]
                refine g_b_eq (tgt := 83) hG dX1_uniform_63 (by decide) (fun h6 => ?_) (fun h6 => ?_)
                · refine g_iinc (v := nI (u + 1)) (lv' := [(0, .ref (q 0)), (1, .int (nI a)), (2, .int (pB wt)), (3, .int (nI z)), (4, .int (nI (u + 1))), (5, .int (pB (zp_rel (s 1) u z)))]) hG dX1_uniform_83 4 rfl (nI_add _ _) (by decide) [1, 2, 3, 4, 0, 5] rfl ?_
                  refine g_goto (tgt := 13) hG dX1_uniform_86 (by decide) ?_
                  exact g_sub (lv' := [(0, .ref (q 0)), (1, .int (nI a)), (2, .int (pB wt)), (3, .int (nI z)), (4, .int (nI (u + 1)))]) hG [0, 1, 2, 3, 4] (rfl) (ih2 (u + 1) (by omega) (by omega) (lt_s hJ (fun q1 q2 => absurd q1 h6)))
                · refine g_aload_n hG dX1_uniform_66 rfl 0 rfl ?_
                  refine g_iload_n hG dX1_uniform_67 rfl 1 rfl ?_
                  refine g_iload_n hG dX1_uniform_68 rfl 3 rfl ?_
                  refine g_call hG (mM_in l s a z ha (by omega)) 2 q201 q203 qs15 q27 q204 (by decide +kernel) rfl ⟨by decide, by decide⟩ (ci := 1) rfl rfl rfl [] rfl (by simp [Value.category]) dX1_uniform_69 ?_
                  rintro _ _ ⟨rfl, rfl⟩
                  show G s 72 [(0, .ref (q 0)), (1, .int (nI a)), (2, .int (pB wt)), (3, .int (nI z)), (4, .int (nI u)), (5, .int (pB (zp_rel (s 1) u z)))] [.int (pB (a.testBit z = true))]
                  refine g_b_eq (tgt := 83) hG dX1_uniform_72 (by decide) (fun h7 => ?_) (fun h7 => ?_)
                  · refine g_iinc (v := nI (u + 1)) (lv' := [(0, .ref (q 0)), (1, .int (nI a)), (2, .int (pB wt)), (3, .int (nI z)), (4, .int (nI (u + 1))), (5, .int (pB (zp_rel (s 1) u z)))]) hG dX1_uniform_83 4 rfl (nI_add _ _) (by decide) [1, 2, 3, 4, 0, 5] rfl ?_
                    refine g_goto (tgt := 13) hG dX1_uniform_86 (by decide) ?_
                    exact g_sub (lv' := [(0, .ref (q 0)), (1, .int (nI a)), (2, .int (pB wt)), (3, .int (nI z)), (4, .int (nI (u + 1)))]) hG [0, 1, 2, 3, 4] (rfl) (ih2 (u + 1) (by omega) (by omega) (lt_s hJ (fun q1 q2 => absurd q2 h7)))
                  · refine g_iload hG dX1_uniform_75 5 rfl ?_
                    refine g_iload_n hG dX1_uniform_77 rfl 2 rfl ?_
                    refine g_bb_eq (tgt := 83) hG dX1_uniform_78 (by decide) (fun h8 => ?_) (fun h8 => ?_)
                    · refine g_iinc (v := nI (u + 1)) (lv' := [(0, .ref (q 0)), (1, .int (nI a)), (2, .int (pB wt)), (3, .int (nI z)), (4, .int (nI (u + 1))), (5, .int (pB (zp_rel (s 1) u z)))]) hG dX1_uniform_83 4 rfl (nI_add _ _) (by decide) [1, 2, 3, 4, 0, 5] rfl ?_
                      refine g_goto (tgt := 13) hG dX1_uniform_86 (by decide) ?_
                      exact g_sub (lv' := [(0, .ref (q 0)), (1, .int (nI a)), (2, .int (pB wt)), (3, .int (nI z)), (4, .int (nI (u + 1)))]) hG [0, 1, 2, 3, 4] (rfl) (ih2 (u + 1) (by omega) (by omega) (lt_s hJ (fun q1 q2 => h8)))
                    · refine g_iconst (v := nI 0) hG dX1_uniform_81 rfl ?_
                      exact g_iret hG rfl (rfl) dX1_uniform_82 (⟨zr_0 (fun hh => h8 (hh z (by omega) u (by omega) h6 h7)), rfl⟩)
              refine g_aload_n hG dX1_uniform_19 rfl 0 rfl ?_
              refine g_aload_n hG dX1_uniform_20 rfl 0 rfl ?_
              refine m_get (s := s) (v := .ref (q 1)) hG 1 (by decide) rfl q184 rfl dX1_uniform_21 ?_
              refine g_iload_n hG dX1_uniform_24 rfl 3 rfl ?_
              refine g_ild (s := s) (f := s 1) (v := z) hG 1 rfl rfl (by omega) (by decide) dX1_uniform_25 ?_
              refine g_iload hG dX1_uniform_26 4 rfl ?_
              refine g_call hG (mM_in l s (s 1 z) u (by omega) (by omega)) 2 q201 q203 qs15 q27 q204 (by decide +kernel) rfl ⟨by decide, by decide⟩ (ci := 1) rfl rfl rfl [] rfl (by simp [Value.category]) dX1_uniform_28 ?_
              rintro _ _ ⟨rfl, rfl⟩
              show G s 31 [(0, .ref (q 0)), (1, .int (nI a)), (2, .int (pB wt)), (3, .int (nI z)), (4, .int (nI u))] [.int (pB ((s 1 z).testBit u = true))]
              refine g_b_ne (tgt := 49) hG dX1_uniform_31 (by decide) (fun h4 => ?_) (fun h4 => ?_)
              · refine g_iconst (v := nI 1) hG dX1_uniform_49 rfl ?_
                refine g_goto (tgt := 54) hG dX1_uniform_50 (by decide) ?_
                refine g_as (y := pB (zp_rel (s 1) u z)) ((pB_t (Or.inl h4)).symm) ?_
                exact tl
              · refine g_aload_n hG dX1_uniform_34 rfl 0 rfl ?_
                refine g_aload_n hG dX1_uniform_35 rfl 0 rfl ?_
                refine m_get (s := s) (v := .ref (q 1)) hG 1 (by decide) rfl q184 rfl dX1_uniform_36 ?_
                refine g_iload hG dX1_uniform_39 4 rfl ?_
                refine g_ild (s := s) (f := s 1) (v := u) hG 1 rfl rfl (by omega) (by decide) dX1_uniform_41 ?_
                refine g_iload_n hG dX1_uniform_42 rfl 3 rfl ?_
                refine g_call hG (mM_in l s (s 1 u) z (by omega) (by omega)) 2 q201 q203 qs15 q27 q204 (by decide +kernel) rfl ⟨by decide, by decide⟩ (ci := 1) rfl rfl rfl [] rfl (by simp [Value.category]) dX1_uniform_43 ?_
                rintro _ _ ⟨rfl, rfl⟩
                show G s 46 [(0, .ref (q 0)), (1, .int (nI a)), (2, .int (pB wt)), (3, .int (nI z)), (4, .int (nI u))] [.int (pB ((s 1 u).testBit z = true))]
                refine g_b_eq (tgt := 53) hG dX1_uniform_46 (by decide) (fun h5 => ?_) (fun h5 => ?_)
                · refine g_iconst (v := nI 0) hG dX1_uniform_53 rfl ?_
                  refine g_as (y := pB (zp_rel (s 1) u z)) ((pB_f (fun hh => hh.elim h4 h5)).symm) ?_
                  exact tl
                · refine g_iconst (v := nI 1) hG dX1_uniform_49 rfl ?_
                  refine g_goto (tgt := 54) hG dX1_uniform_50 (by decide) ?_
                  refine g_as (y := pB (zp_rel (s 1) u z)) ((pB_t (Or.inr h5)).symm) ?_
                  exact tl
        refine g_iconst (v := nI 0) hG dX1_uniform_10 rfl ?_
        refine g_istore (lv' := [(0, .ref (q 0)), (1, .int (nI a)), (2, .int (pB wt)), (3, .int (nI z)), (4, .int (nI 0))]) hG dX1_uniform_11 (by decide) [1, 2, 3, 4, 0] rfl ?_
        exact lp2 (z + 1) 0 (by omega) (by omega) (fun _ h => absurd h (Nat.not_lt_zero _))
  refine g_iconst (v := nI 0) hG dX1_uniform_0 rfl ?_
  refine g_istore_n (lv' := [(0, .ref (q 0)), (1, .int (nI a)), (2, .int (pB wt)), (3, .int (nI 0))]) hG dX1_uniform_1 rfl (by decide) [1, 2, 3, 0] rfl ?_
  exact lp (s 0 0 + 1) 0 (by omega) (by omega) (fun _ h => absurd h (Nat.not_lt_zero _))
set_option maxHeartbeats 4000000 in
/-- largest(a, wt) -/
theorem mM_largest (l : Launch) (s : zS) (a : Nat) (wt : Prop) (ha : a < 1024) (hm : zm_ok s) : zc_M l zc_ML yX1_largest cX1_largest 6 2 47 (some .int) [.int (nI a), .int (pB wt)] s (fun v s' => ∃ k, zp_Mx (s 0 0) (s 1) a wt k ∧ v = some (.int (nI k)) ∧ s = s') := by
  refine zc_M.of (own := RX1) rfl rfl (fun _ => Nat.le_of_ble_eq_true rfl) ?_
  intro q ca G hG
  show G s 0 [(0, .ref (q 0)), (1, .int (nI a)), (2, .int (pB wt))] []
  have lp : ∀ (k : Nat) (b p : Nat), p + 1 ≤ k → zp_sub p a → (∃ r, zp_sub r a ∧ zp_uni (s 0 0) (s 1) r wt ∧ zb_cnt r 10 = b) → (∀ r, zp_sub r a → zp_uni (s 0 0) (s 1) r wt → p < r → zb_cnt r 10 ≤ b) → G s 5 [(0, .ref (q 0)), (1, .int (nI a)), (2, .int (pB wt)), (3, .int (nI b)), (4, .int (nI p))] [] := by
    intro k
    induction k with
    | zero => intros; omega
    | succ k ih =>
      intro b p hk hps hb hall
      have hpa := zp_sub_le hps
      have hb10 : b ≤ 10 := by
        obtain ⟨p0, -, -, e⟩ := hb
        rw [← e]; exact zb_cnt_le _ _
      refine g_iload hG dX1_largest_5 4 rfl ?_
      refine g_z_le (tgt := 48) hG dX1_largest_7 (by decide) (by omega) (fun h1 => ?_) (fun h1 => ?_)
      · refine g_iload_n hG dX1_largest_48 rfl 3 rfl ?_
        exact g_iret hG rfl (rfl) dX1_largest_49 (⟨b, ⟨hb, fun p h1 h2 => by
          by_cases e : p = 0
          · subst e; rw [zb_cnt_0]; exact Nat.zero_le _
          · exact hall p h1 h2 (by omega)⟩, rfl, rfl⟩)
      · refine g_aload_n hG dX1_largest_10 rfl 0 rfl ?_
        refine g_iload hG dX1_largest_11 4 rfl ?_
        refine g_call hG (mM_sizeOf l s p (by omega)) 1 q229 q231 qs17 q27 q232 (by decide +kernel) rfl ⟨by decide, by decide⟩ (ci := 1) rfl rfl rfl [] rfl (by simp [Value.category]) dX1_largest_13 ?_
        rintro _ _ ⟨rfl, rfl⟩
        show G s 16 [(0, .ref (q 0)), (1, .int (nI a)), (2, .int (pB wt)), (3, .int (nI b)), (4, .int (nI p))] [.int (nI (zb_cnt p 10))]
        have hc10 := zb_cnt_le p 10
        have hnx : ∀ r, zp_sub r a → (p - 1) &&& a < r → p ≤ r := fun r h1 h2 => by
          apply Classical.byContradiction
          intro h3
          have := zb_step a p r hps h1 (by omega)
          omega
        have hle : (p - 1) &&& a ≤ p - 1 := Nat.and_le_left
        have hsub : zp_sub ((p - 1) &&& a) a := fun i hi => by
          rw [Nat.testBit_and] at hi
          exact (Bool.and_eq_true_iff.mp hi).2
        refine g_istore (lv' := [(0, .ref (q 0)), (1, .int (nI a)), (2, .int (pB wt)), (3, .int (nI b)), (4, .int (nI p)), (5, .int (nI (zb_cnt p 10)))]) hG dX1_largest_16 (by decide) [1, 2, 3, 4, 5, 0] rfl ?_
        refine g_iload hG dX1_largest_18 5 rfl ?_
        refine g_iload_n hG dX1_largest_20 rfl 3 rfl ?_
        refine g_n_le (tgt := 37) hG dX1_largest_21 (by decide) (by omega) (by omega) (fun h2 => ?_) (fun h2 => ?_)
        · refine g_iload hG dX1_largest_37 4 rfl ?_
          refine g_iconst (v := nI 1) hG dX1_largest_39 rfl ?_
          refine g_isub (z := nI (p - 1)) hG dX1_largest_40 (pk_sub (by omega)) ?_
          refine g_iload_n hG dX1_largest_41 rfl 1 rfl ?_
          refine g_iand (z := nI ((p - 1) &&& a)) hG dX1_largest_42 (nx_and _ _) ?_
          refine g_istore (lv' := [(0, .ref (q 0)), (1, .int (nI a)), (2, .int (pB wt)), (3, .int (nI b)), (4, .int (nI ((p - 1) &&& a))), (5, .int (nI (zb_cnt p 10)))]) hG dX1_largest_43 (by decide) [1, 2, 3, 4, 0, 5] rfl ?_
          refine g_goto (tgt := 5) hG dX1_largest_45 (by decide) ?_
          exact g_sub (lv' := [(0, .ref (q 0)), (1, .int (nI a)), (2, .int (pB wt)), (3, .int (nI b)), (4, .int (nI ((p - 1) &&& a)))]) hG [0, 1, 2, 3, 4] (rfl) (ih b ((p - 1) &&& a) (by omega) hsub hb (fun r g1 g2 g3 => by
            by_cases e : r = p
            · subst e; omega
            · have := hall r g1 g2 (by have := hnx r g1 g3; omega)
              omega))
        · refine g_aload_n hG dX1_largest_24 rfl 0 rfl ?_
          refine g_iload hG dX1_largest_25 4 rfl ?_
          refine g_iload_n hG dX1_largest_27 rfl 2 rfl ?_
          refine g_call hG (mM_uniform l s p wt (by omega) hm) 2 q233 q235 qs18 q27 q236 (by decide +kernel) rfl ⟨by decide, by decide⟩ (ci := 1) rfl rfl rfl [] rfl (by simp [Value.category]) dX1_largest_28 ?_
          rintro _ _ ⟨rfl, rfl⟩
          show G s 31 [(0, .ref (q 0)), (1, .int (nI a)), (2, .int (pB wt)), (3, .int (nI b)), (4, .int (nI p)), (5, .int (nI (zb_cnt p 10)))] [.int (pB (zp_uni (s 0 0) (s 1) p wt))]
          refine g_b_eq (tgt := 37) hG dX1_largest_31 (by decide) (fun h3 => ?_) (fun h3 => ?_)
          · refine g_iload hG dX1_largest_37 4 rfl ?_
            refine g_iconst (v := nI 1) hG dX1_largest_39 rfl ?_
            refine g_isub (z := nI (p - 1)) hG dX1_largest_40 (pk_sub (by omega)) ?_
            refine g_iload_n hG dX1_largest_41 rfl 1 rfl ?_
            refine g_iand (z := nI ((p - 1) &&& a)) hG dX1_largest_42 (nx_and _ _) ?_
            refine g_istore (lv' := [(0, .ref (q 0)), (1, .int (nI a)), (2, .int (pB wt)), (3, .int (nI b)), (4, .int (nI ((p - 1) &&& a))), (5, .int (nI (zb_cnt p 10)))]) hG dX1_largest_43 (by decide) [1, 2, 3, 4, 0, 5] rfl ?_
            refine g_goto (tgt := 5) hG dX1_largest_45 (by decide) ?_
            exact g_sub (lv' := [(0, .ref (q 0)), (1, .int (nI a)), (2, .int (pB wt)), (3, .int (nI b)), (4, .int (nI ((p - 1) &&& a)))]) hG [0, 1, 2, 3, 4] (rfl) (ih b ((p - 1) &&& a) (by omega) hsub hb (fun r g1 g2 g3 => by
              by_cases e : r = p
              · subst e; exact absurd g2 h3
              · have := hall r g1 g2 (by have := hnx r g1 g3; omega)
                omega))
          · refine g_iload hG dX1_largest_34 5 rfl ?_
            refine g_istore_n (lv' := [(0, .ref (q 0)), (1, .int (nI a)), (2, .int (pB wt)), (3, .int (nI (zb_cnt p 10))), (4, .int (nI p)), (5, .int (nI (zb_cnt p 10)))]) hG dX1_largest_36 rfl (by decide) [1, 2, 3, 0, 4, 5] rfl ?_
            refine g_iload hG dX1_largest_37 4 rfl ?_
            refine g_iconst (v := nI 1) hG dX1_largest_39 rfl ?_
            refine g_isub (z := nI (p - 1)) hG dX1_largest_40 (pk_sub (by omega)) ?_
            refine g_iload_n hG dX1_largest_41 rfl 1 rfl ?_
            refine g_iand (z := nI ((p - 1) &&& a)) hG dX1_largest_42 (nx_and _ _) ?_
            refine g_istore (lv' := [(0, .ref (q 0)), (1, .int (nI a)), (2, .int (pB wt)), (3, .int (nI (zb_cnt p 10))), (4, .int (nI ((p - 1) &&& a))), (5, .int (nI (zb_cnt p 10)))]) hG dX1_largest_43 (by decide) [1, 2, 3, 4, 0, 5] rfl ?_
            refine g_goto (tgt := 5) hG dX1_largest_45 (by decide) ?_
            exact g_sub (lv' := [(0, .ref (q 0)), (1, .int (nI a)), (2, .int (pB wt)), (3, .int (nI (zb_cnt p 10))), (4, .int (nI ((p - 1) &&& a)))]) hG [0, 1, 2, 3, 4] (rfl) (ih (zb_cnt p 10) ((p - 1) &&& a) (by omega) hsub ⟨p, hps, h3, rfl⟩ (fun r g1 g2 g3 => by
              by_cases e : r = p
              · subst e; omega
              · have := hall r g1 g2 (by have := hnx r g1 g3; omega)
                omega))
  refine g_iconst (v := nI 0) hG dX1_largest_0 rfl ?_
  refine g_istore_n (lv' := [(0, .ref (q 0)), (1, .int (nI a)), (2, .int (pB wt)), (3, .int (nI 0))]) hG dX1_largest_1 rfl (by decide) [1, 2, 3, 0] rfl ?_
  refine g_iload_n hG dX1_largest_2 rfl 1 rfl ?_
  refine g_istore (lv' := [(0, .ref (q 0)), (1, .int (nI a)), (2, .int (pB wt)), (3, .int (nI 0)), (4, .int (nI a))]) hG dX1_largest_3 (by decide) [1, 2, 3, 4, 0] rfl ?_
  exact lp (a + 1) 0 a (by omega) (zp_sub_refl a) ⟨0, zp_sub_0 a, zp_uni_0 _ _ _, zb_cnt_0 _⟩ (fun r h1 _ h3 => absurd (zp_sub_le h1) (by omega))
set_option maxHeartbeats 4000000 in
/-- width(x) -/
theorem mM_width (l : Launch) (s : zS) (x : Int32) (hm : zm_ok s) : zc_M l zc_ML yX1_width cX1_width 2 3 72 (some .int) [.int x] s (fun v s' => (¬ zp_is (s 0 0) x ∧ v = some (.int (-1)) ∧ s = s') ∨ (∃ a k, a < 2 ^ s 0 0 ∧ x = nI a ∧ zp_Mx (s 0 0) (s 1) a False k ∧ v = some (.int (nI k)) ∧ s = s')) := by
  refine zc_M.of (own := RX1) rfl rfl (fun _ => Nat.le_of_ble_eq_true rfl) ?_
  intro q ca G hG
  show G s 0 [(0, .ref (q 0)), (1, .int x)] []
  refine g_aload_n hG dX1_width_0 rfl 0 rfl ?_
  refine g_iload_n hG dX1_width_1 rfl 1 rfl ?_
  refine g_call hG (mM_isSet l s x hm.1) 1 q197 q199 qs14 q27 q200 (by decide +kernel) rfl ⟨by decide, by decide⟩ (ci := 1) rfl rfl rfl [] rfl (by simp [Value.category]) dX1_width_2 ?_
  rintro _ _ ⟨rfl, rfl⟩
  show G s 5 [(0, .ref (q 0)), (1, .int x)] [.int (pB (zp_is (s 0 0) x))]
  refine g_b_eq (tgt := 17) hG dX1_width_5 (by decide) (fun h2 => ?_) (fun h2 => ?_)
  · refine g_iconst (v := -1) hG dX1_width_17 rfl ?_
    exact g_iret hG rfl (rfl) dX1_width_18 (Or.inl ⟨h2, rfl, rfl⟩)
  · obtain ⟨a, ha, rfl⟩ := h2
    have hn := hm.1
    have ha10 : a < 2 ^ 10 := Nat.lt_of_lt_of_le ha (Nat.pow_le_pow_right (by decide) hn)
    refine g_aload_n hG dX1_width_8 rfl 0 rfl ?_
    refine g_iload_n hG dX1_width_9 rfl 1 rfl ?_
    refine g_iconst (v := nI 0) hG dX1_width_10 rfl ?_
    refine g_as (y := pB False) (zp_t0) ?_
    refine g_call hG (mM_largest l s a False ha10 hm) 2 q225 q227 qs16 q27 q228 (by decide +kernel) rfl ⟨by decide, by decide⟩ (ci := 1) rfl rfl rfl [] rfl (by simp [Value.category]) dX1_width_11 ?_
    rintro _ _ ⟨k, hk, rfl, rfl⟩
    show G s 14 [(0, .ref (q 0)), (1, .int (nI a))] [.int (nI k)]
    refine g_goto (tgt := 18) hG dX1_width_14 (by decide) ?_
    exact g_iret hG rfl (rfl) dX1_width_18 (Or.inr ⟨a, k, ha, rfl, hk, rfl, rfl⟩)
set_option maxHeartbeats 4000000 in
/-- longestChain(x) -/
theorem mM_longestChain (l : Launch) (s : zS) (x : Int32) (hm : zm_ok s) : zc_M l zc_ML yX1_longestChain cX1_longestChain 2 3 72 (some .int) [.int x] s (fun v s' => (¬ zp_is (s 0 0) x ∧ v = some (.int (-1)) ∧ s = s') ∨ (∃ a k, a < 2 ^ s 0 0 ∧ x = nI a ∧ zp_Mx (s 0 0) (s 1) a True k ∧ v = some (.int (nI k)) ∧ s = s')) := by
  refine zc_M.of (own := RX1) rfl rfl (fun _ => Nat.le_of_ble_eq_true rfl) ?_
  intro q ca G hG
  show G s 0 [(0, .ref (q 0)), (1, .int x)] []
  refine g_aload_n hG dX1_longestChain_0 rfl 0 rfl ?_
  refine g_iload_n hG dX1_longestChain_1 rfl 1 rfl ?_
  refine g_call hG (mM_isSet l s x hm.1) 1 q197 q199 qs14 q27 q200 (by decide +kernel) rfl ⟨by decide, by decide⟩ (ci := 1) rfl rfl rfl [] rfl (by simp [Value.category]) dX1_longestChain_2 ?_
  rintro _ _ ⟨rfl, rfl⟩
  show G s 5 [(0, .ref (q 0)), (1, .int x)] [.int (pB (zp_is (s 0 0) x))]
  refine g_b_eq (tgt := 17) hG dX1_longestChain_5 (by decide) (fun h2 => ?_) (fun h2 => ?_)
  · refine g_iconst (v := -1) hG dX1_longestChain_17 rfl ?_
    exact g_iret hG rfl (rfl) dX1_longestChain_18 (Or.inl ⟨h2, rfl, rfl⟩)
  · obtain ⟨a, ha, rfl⟩ := h2
    have hn := hm.1
    have ha10 : a < 2 ^ 10 := Nat.lt_of_lt_of_le ha (Nat.pow_le_pow_right (by decide) hn)
    refine g_aload_n hG dX1_longestChain_8 rfl 0 rfl ?_
    refine g_iload_n hG dX1_longestChain_9 rfl 1 rfl ?_
    refine g_iconst (v := nI 1) hG dX1_longestChain_10 rfl ?_
    refine g_as (y := pB True) (zp_t1) ?_
    refine g_call hG (mM_largest l s a True ha10 hm) 2 q225 q227 qs16 q27 q228 (by decide +kernel) rfl ⟨by decide, by decide⟩ (ci := 1) rfl rfl rfl [] rfl (by simp [Value.category]) dX1_longestChain_11 ?_
    rintro _ _ ⟨k, hk, rfl, rfl⟩
    show G s 14 [(0, .ref (q 0)), (1, .int (nI a))] [.int (nI k)]
    refine g_goto (tgt := 18) hG dX1_longestChain_14 (by decide) ?_
    exact g_iret hG rfl (rfl) dX1_longestChain_18 (Or.inr ⟨a, k, ha, rfl, hk, rfl, rfl⟩)
end
section
set_option maxRecDepth 100000
theorem zp_Mx_uniq {n : Nat} {un : Nat → Nat} {a : Nat} {w : Prop} {k1 k2 : Nat} (h1 : zp_Mx n un a w k1) (h2 : zp_Mx n un a w k2) : k1 = k2 := by
  obtain ⟨⟨p1, a1, b1, c1⟩, d1⟩ := h1
  obtain ⟨⟨p2, a2, b2, c2⟩, d2⟩ := h2
  have := d1 p2 a2 b2
  have := d2 p1 a1 b1
  omega
theorem zl_up {f : Nat → Nat} {i e : Nat} {P : Nat → Nat → Prop} (h : ∀ j, j < i → P j (f j)) (hi : P i e) : ∀ j, j < i + 1 → P j (zc_up f i e j) := by
  intro j hj
  by_cases e1 : j = i
  · subst e1; rw [zc_up_s]; exact hi
  · rw [zc_up_n e1]; exact h j (by omega)
theorem zp_p10 {n : Nat} (hn : n ≤ 10) : 2 ^ n ≤ 1024 := show 2 ^ n ≤ 2 ^ 10 from Nat.pow_le_pow_right (by decide) hn
/-- width of all -/
theorem mM_widthF (l : Launch) (s : zS) (hm : zm_ok s) : zc_M l zc_ML yX1_width cX1_width 2 3 72 (some .int) [.int (nI (2 ^ s 0 0 - 1))] s (fun v s' => ∃ k, k ≤ 10 ∧ zp_Mx (s 0 0) (s 1) (2 ^ s 0 0 - 1) False k ∧ v = some (.int (nI k)) ∧ s = s') := by
  refine (mM_width l s _ hm).weak ?_
  have h1 := zb_pow_pos (s 0 0)
  have h2 := zp_p10 hm.1
  rintro v s' (⟨h, -⟩ | ⟨a, k, ha, e, hk, rfl, rfl⟩)
  · exact absurd ⟨2 ^ s 0 0 - 1, by omega, rfl⟩ h
  · have e2 := (nI_eq (by omega) (by omega)).mp e
    subst e2
    refine ⟨k, ?_, hk, rfl, rfl⟩
    obtain ⟨⟨p, -, -, e⟩, -⟩ := hk
    rw [← e]
    exact zb_cnt_le _ _
set_option maxHeartbeats 4000000 in
/-- someAbove(z, b) -/
theorem mM_someAbove (l : Launch) (s : zS) (z b : Nat) (hz : z < 32) (hb : b < 2 ^ 31) (hm : zm_ok s) : zc_M l zc_ML yX1_someAbove cX1_someAbove 4 1 22 (some .boolean) [.int (nI z), .int (nI b)] s (fun v s' => v = some (.int (pB (∃ y, y < s 0 0 ∧ b.testBit y = true ∧ (s 1 y).testBit z = true))) ∧ s = s') := by
  refine zc_M.of (own := RX1) rfl rfl (fun _ => Nat.le_of_ble_eq_true rfl) ?_
  intro q ca G hG
  show G s 0 [(0, .ref (q 0)), (1, .int (nI z)), (2, .int (nI b))] []
  obtain ⟨hn, hu⟩ := hm
  have lp : ∀ (k : Nat) (i : Nat), i ≤ s 0 0 → s 0 0 + 1 ≤ i + k → (∀ y, y < i → b.testBit y = true → ¬ (s 1 y).testBit z = true) → G s 2 [(0, .ref (q 0)), (1, .int (nI z)), (2, .int (nI b)), (3, .int (nI i))] [] := by
    intro k
    induction k with
    | zero => intros; omega
    | succ k ih =>
      intro i hi hk hI
      refine g_iload_n hG dX1_someAbove_2 rfl 3 rfl ?_
      refine g_aload_n hG dX1_someAbove_3 rfl 0 rfl ?_
      refine m_get (s := s) (v := .int (nI (s 0 0))) hG 0 (by decide) rfl q183 rfl dX1_someAbove_4 ?_
      refine g_n_ge (tgt := 41) hG dX1_someAbove_7 (by decide) (by omega) (by omega) (fun h1 => ?_) (fun h1 => ?_)
      · refine g_iconst (v := nI 0) hG dX1_someAbove_41 rfl ?_
        exact g_iret hG rfl (rfl) dX1_someAbove_42 (⟨zr_0 (fun ⟨y, h2, h3, h4⟩ => hI y (by omega) h3 h4), rfl⟩)
      · have hu8 := hu i (by omega)
        refine g_aload_n hG dX1_someAbove_10 rfl 0 rfl ?_
        refine g_iload_n hG dX1_someAbove_11 rfl 2 rfl ?_
        refine g_iload_n hG dX1_someAbove_12 rfl 3 rfl ?_
        refine g_call hG (mM_in l s b i hb (by omega)) 2 q201 q203 qs15 q27 q204 (by decide +kernel) rfl ⟨by decide, by decide⟩ (ci := 1) rfl rfl rfl [] rfl (by simp [Value.category]) dX1_someAbove_13 ?_
        rintro _ _ ⟨rfl, rfl⟩
        show G s 16 [(0, .ref (q 0)), (1, .int (nI z)), (2, .int (nI b)), (3, .int (nI i))] [.int (pB (b.testBit i = true))]
        refine g_b_eq (tgt := 35) hG dX1_someAbove_16 (by decide) (fun h2 => ?_) (fun h2 => ?_)
        · refine g_iinc (v := nI (i + 1)) (lv' := [(0, .ref (q 0)), (1, .int (nI z)), (2, .int (nI b)), (3, .int (nI (i + 1)))]) hG dX1_someAbove_35 3 rfl (nI_add _ _) (by decide) [1, 2, 3, 0] rfl ?_
          refine g_goto (tgt := 2) hG dX1_someAbove_38 (by decide) ?_
          exact ih (i + 1) (by omega) (by omega) (lt_s hI (fun q1 => absurd q1 h2))
        · refine g_aload_n hG dX1_someAbove_19 rfl 0 rfl ?_
          refine g_aload_n hG dX1_someAbove_20 rfl 0 rfl ?_
          refine m_get (s := s) (v := .ref (q 1)) hG 1 (by decide) rfl q184 rfl dX1_someAbove_21 ?_
          refine g_iload_n hG dX1_someAbove_24 rfl 3 rfl ?_
          refine g_ild (s := s) (f := s 1) (v := i) hG 1 rfl rfl (by omega) (by decide) dX1_someAbove_25 ?_
          refine g_iload_n hG dX1_someAbove_26 rfl 1 rfl ?_
          refine g_call hG (mM_in l s (s 1 i) z (by omega) hz) 2 q201 q203 qs15 q27 q204 (by decide +kernel) rfl ⟨by decide, by decide⟩ (ci := 1) rfl rfl rfl [] rfl (by simp [Value.category]) dX1_someAbove_27 ?_
          rintro _ _ ⟨rfl, rfl⟩
          show G s 30 [(0, .ref (q 0)), (1, .int (nI z)), (2, .int (nI b)), (3, .int (nI i))] [.int (pB ((s 1 i).testBit z = true))]
          refine g_b_eq (tgt := 35) hG dX1_someAbove_30 (by decide) (fun h3 => ?_) (fun h3 => ?_)
          · refine g_iinc (v := nI (i + 1)) (lv' := [(0, .ref (q 0)), (1, .int (nI z)), (2, .int (nI b)), (3, .int (nI (i + 1)))]) hG dX1_someAbove_35 3 rfl (nI_add _ _) (by decide) [1, 2, 3, 0] rfl ?_
            refine g_goto (tgt := 2) hG dX1_someAbove_38 (by decide) ?_
            exact ih (i + 1) (by omega) (by omega) (lt_s hI (fun _ => h3))
          · refine g_iconst (v := nI 1) hG dX1_someAbove_33 rfl ?_
            exact g_iret hG rfl (rfl) dX1_someAbove_34 (⟨zr_1 ⟨i, by omega, h2, h3⟩, rfl⟩)
  refine g_iconst (v := nI 0) hG dX1_someAbove_0 rfl ?_
  refine g_istore_n (lv' := [(0, .ref (q 0)), (1, .int (nI z)), (2, .int (nI b)), (3, .int (nI 0))]) hG dX1_someAbove_1 rfl (by decide) [1, 2, 3, 0] rfl ?_
  exact lp (s 0 0 + 1) 0 (by omega) (by omega) (fun _ h => absurd h (Nat.not_lt_zero _))
set_option maxHeartbeats 4000000 in
/-- allBelow(a, b) -/
theorem mM_allBelow (l : Launch) (s : zS) (a b : Nat) (ha : a < 2 ^ 31) (hb : b < 2 ^ 31) (hm : zm_ok s) : zc_M l zc_ML yX1_allBelow cX1_allBelow 4 2 45 (some .boolean) [.int (nI a), .int (nI b)] s (fun v s' => v = some (.int (pB (zp_Bw (s 0 0) (s 1) a b))) ∧ s = s') := by
  refine zc_M.of (own := RX1) rfl rfl (fun _ => Nat.le_of_ble_eq_true rfl) ?_
  intro q ca G hG
  show G s 0 [(0, .ref (q 0)), (1, .int (nI a)), (2, .int (nI b))] []
  have hn := hm.1
  have lp : ∀ (k : Nat) (i : Nat), i ≤ s 0 0 → s 0 0 + 1 ≤ i + k → (∀ z, z < i → a.testBit z = true → ¬ b.testBit z = true → ∃ y, y < s 0 0 ∧ b.testBit y = true ∧ (s 1 y).testBit z = true) → G s 2 [(0, .ref (q 0)), (1, .int (nI a)), (2, .int (nI b)), (3, .int (nI i))] [] := by
    intro k
    induction k with
    | zero => intros; omega
    | succ k ih =>
      intro i hi hk hI
      refine g_iload_n hG dX1_allBelow_2 rfl 3 rfl ?_
      refine g_aload_n hG dX1_allBelow_3 rfl 0 rfl ?_
      refine m_get (s := s) (v := .int (nI (s 0 0))) hG 0 (by decide) rfl q183 rfl dX1_allBelow_4 ?_
      refine g_n_ge (tgt := 45) hG dX1_allBelow_7 (by decide) (by omega) (by omega) (fun h1 => ?_) (fun h1 => ?_)
      · refine g_iconst (v := nI 1) hG dX1_allBelow_45 rfl ?_
        exact g_iret hG rfl (rfl) dX1_allBelow_46 (⟨zr_1 (fun z hz => hI z (by omega)), rfl⟩)
      · refine g_aload_n hG dX1_allBelow_10 rfl 0 rfl ?_
        refine g_iload_n hG dX1_allBelow_11 rfl 1 rfl ?_
        refine g_iload_n hG dX1_allBelow_12 rfl 3 rfl ?_
        refine g_call hG (mM_in l s a i ha (by omega)) 2 q201 q203 qs15 q27 q204 (by decide +kernel) rfl ⟨by decide, by decide⟩ (ci := 1) rfl rfl rfl [] rfl (by simp [Value.category]) dX1_allBelow_13 ?_
        rintro _ _ ⟨rfl, rfl⟩
        show G s 16 [(0, .ref (q 0)), (1, .int (nI a)), (2, .int (nI b)), (3, .int (nI i))] [.int (pB (a.testBit i = true))]
        refine g_b_eq (tgt := 39) hG dX1_allBelow_16 (by decide) (fun h2 => ?_) (fun h2 => ?_)
        · refine g_iinc (v := nI (i + 1)) (lv' := [(0, .ref (q 0)), (1, .int (nI a)), (2, .int (nI b)), (3, .int (nI (i + 1)))]) hG dX1_allBelow_39 3 rfl (nI_add _ _) (by decide) [1, 2, 3, 0] rfl ?_
          refine g_goto (tgt := 2) hG dX1_allBelow_42 (by decide) ?_
          exact ih (i + 1) (by omega) (by omega) (lt_s hI (fun q1 => absurd q1 h2))
        · refine g_aload_n hG dX1_allBelow_19 rfl 0 rfl ?_
          refine g_iload_n hG dX1_allBelow_20 rfl 2 rfl ?_
          refine g_iload_n hG dX1_allBelow_21 rfl 3 rfl ?_
          refine g_call hG (mM_in l s b i hb (by omega)) 2 q201 q203 qs15 q27 q204 (by decide +kernel) rfl ⟨by decide, by decide⟩ (ci := 1) rfl rfl rfl [] rfl (by simp [Value.category]) dX1_allBelow_22 ?_
          rintro _ _ ⟨rfl, rfl⟩
          show G s 25 [(0, .ref (q 0)), (1, .int (nI a)), (2, .int (nI b)), (3, .int (nI i))] [.int (pB (b.testBit i = true))]
          refine g_b_ne (tgt := 39) hG dX1_allBelow_25 (by decide) (fun h3 => ?_) (fun h3 => ?_)
          · refine g_iinc (v := nI (i + 1)) (lv' := [(0, .ref (q 0)), (1, .int (nI a)), (2, .int (nI b)), (3, .int (nI (i + 1)))]) hG dX1_allBelow_39 3 rfl (nI_add _ _) (by decide) [1, 2, 3, 0] rfl ?_
            refine g_goto (tgt := 2) hG dX1_allBelow_42 (by decide) ?_
            exact ih (i + 1) (by omega) (by omega) (lt_s hI (fun _ q2 => absurd h3 q2))
          · refine g_aload_n hG dX1_allBelow_28 rfl 0 rfl ?_
            refine g_iload_n hG dX1_allBelow_29 rfl 3 rfl ?_
            refine g_iload_n hG dX1_allBelow_30 rfl 2 rfl ?_
            refine g_call hG (mM_someAbove l s i b (by omega) hb hm) 2 q266 q268 qs23 q27 q269 (by decide +kernel) rfl ⟨by decide, by decide⟩ (ci := 1) rfl rfl rfl [] rfl (by simp [Value.category]) dX1_allBelow_31 ?_
            rintro _ _ ⟨rfl, rfl⟩
            show G s 34 [(0, .ref (q 0)), (1, .int (nI a)), (2, .int (nI b)), (3, .int (nI i))] [.int (pB (∃ y, y < s 0 0 ∧ b.testBit y = true ∧ (s 1 y).testBit i = true))]
            refine g_b_ne (tgt := 39) hG dX1_allBelow_34 (by decide) (fun h4 => ?_) (fun h4 => ?_)
            · refine g_iinc (v := nI (i + 1)) (lv' := [(0, .ref (q 0)), (1, .int (nI a)), (2, .int (nI b)), (3, .int (nI (i + 1)))]) hG dX1_allBelow_39 3 rfl (nI_add _ _) (by decide) [1, 2, 3, 0] rfl ?_
              refine g_goto (tgt := 2) hG dX1_allBelow_42 (by decide) ?_
              exact ih (i + 1) (by omega) (by omega) (lt_s hI (fun _ _ => h4))
            · refine g_iconst (v := nI 0) hG dX1_allBelow_37 rfl ?_
              exact g_iret hG rfl (rfl) dX1_allBelow_38 (⟨zr_0 (fun hh => h4 (hh i (by omega) h2 h3)), rfl⟩)
  refine g_iconst (v := nI 0) hG dX1_allBelow_0 rfl ?_
  refine g_istore_n (lv' := [(0, .ref (q 0)), (1, .int (nI a)), (2, .int (nI b)), (3, .int (nI 0))]) hG dX1_allBelow_1 rfl (by decide) [1, 2, 3, 0] rfl ?_
  exact lp (s 0 0 + 1) 0 (by omega) (by omega) (fun _ h => absurd h (Nat.not_lt_zero _))
set_option maxHeartbeats 4000000 in
/-- allAbove(a, b) -/
theorem mM_allAbove (l : Launch) (s : zS) (a b : Nat) (ha : a < 2 ^ 31) (hb : b < 2 ^ 31) (hm : zm_ok s) : zc_M l zc_ML yX1_allAbove cX1_allAbove 4 1 22 (some .boolean) [.int (nI a), .int (nI b)] s (fun v s' => v = some (.int (pB (zp_Av (s 0 0) (s 1) a b))) ∧ s = s') := by
  refine zc_M.of (own := RX1) rfl rfl (fun _ => Nat.le_of_ble_eq_true rfl) ?_
  intro q ca G hG
  show G s 0 [(0, .ref (q 0)), (1, .int (nI a)), (2, .int (nI b))] []
  have hn := hm.1
  have hu := hm.2
  have lp : ∀ (k : Nat) (i : Nat), i ≤ s 0 0 → s 0 0 + 1 ≤ i + k → (∀ z, z < i → a.testBit z = true → ¬ b.testBit z = true → ¬ (s 1 z &&& b) = 0) → G s 2 [(0, .ref (q 0)), (1, .int (nI a)), (2, .int (nI b)), (3, .int (nI i))] [] := by
    intro k
    induction k with
    | zero => intros; omega
    | succ k ih =>
      intro i hi hk hI
      refine g_iload_n hG dX1_allAbove_2 rfl 3 rfl ?_
      refine g_aload_n hG dX1_allAbove_3 rfl 0 rfl ?_
      refine m_get (s := s) (v := .int (nI (s 0 0))) hG 0 (by decide) rfl q183 rfl dX1_allAbove_4 ?_
      refine g_n_ge (tgt := 47) hG dX1_allAbove_7 (by decide) (by omega) (by omega) (fun h1 => ?_) (fun h1 => ?_)
      · refine g_iconst (v := nI 1) hG dX1_allAbove_47 rfl ?_
        exact g_iret hG rfl (rfl) dX1_allAbove_48 (⟨zr_1 (fun z hz => hI z (by omega)), rfl⟩)
      · have hu8 := hu i (by omega)
        refine g_aload_n hG dX1_allAbove_10 rfl 0 rfl ?_
        refine g_iload_n hG dX1_allAbove_11 rfl 1 rfl ?_
        refine g_iload_n hG dX1_allAbove_12 rfl 3 rfl ?_
        refine g_call hG (mM_in l s a i ha (by omega)) 2 q201 q203 qs15 q27 q204 (by decide +kernel) rfl ⟨by decide, by decide⟩ (ci := 1) rfl rfl rfl [] rfl (by simp [Value.category]) dX1_allAbove_13 ?_
        rintro _ _ ⟨rfl, rfl⟩
        show G s 16 [(0, .ref (q 0)), (1, .int (nI a)), (2, .int (nI b)), (3, .int (nI i))] [.int (pB (a.testBit i = true))]
        refine g_b_eq (tgt := 41) hG dX1_allAbove_16 (by decide) (fun h2 => ?_) (fun h2 => ?_)
        · refine g_iinc (v := nI (i + 1)) (lv' := [(0, .ref (q 0)), (1, .int (nI a)), (2, .int (nI b)), (3, .int (nI (i + 1)))]) hG dX1_allAbove_41 3 rfl (nI_add _ _) (by decide) [1, 2, 3, 0] rfl ?_
          refine g_goto (tgt := 2) hG dX1_allAbove_44 (by decide) ?_
          exact ih (i + 1) (by omega) (by omega) (lt_s hI (fun q1 => absurd q1 h2))
        · refine g_aload_n hG dX1_allAbove_19 rfl 0 rfl ?_
          refine g_iload_n hG dX1_allAbove_20 rfl 2 rfl ?_
          refine g_iload_n hG dX1_allAbove_21 rfl 3 rfl ?_
          refine g_call hG (mM_in l s b i hb (by omega)) 2 q201 q203 qs15 q27 q204 (by decide +kernel) rfl ⟨by decide, by decide⟩ (ci := 1) rfl rfl rfl [] rfl (by simp [Value.category]) dX1_allAbove_22 ?_
          rintro _ _ ⟨rfl, rfl⟩
          show G s 25 [(0, .ref (q 0)), (1, .int (nI a)), (2, .int (nI b)), (3, .int (nI i))] [.int (pB (b.testBit i = true))]
          refine g_b_ne (tgt := 41) hG dX1_allAbove_25 (by decide) (fun h3 => ?_) (fun h3 => ?_)
          · refine g_iinc (v := nI (i + 1)) (lv' := [(0, .ref (q 0)), (1, .int (nI a)), (2, .int (nI b)), (3, .int (nI (i + 1)))]) hG dX1_allAbove_41 3 rfl (nI_add _ _) (by decide) [1, 2, 3, 0] rfl ?_
            refine g_goto (tgt := 2) hG dX1_allAbove_44 (by decide) ?_
            exact ih (i + 1) (by omega) (by omega) (lt_s hI (fun _ q2 => absurd h3 q2))
          · refine g_aload_n hG dX1_allAbove_28 rfl 0 rfl ?_
            refine m_get (s := s) (v := .ref (q 1)) hG 1 (by decide) rfl q184 rfl dX1_allAbove_29 ?_
            refine g_iload_n hG dX1_allAbove_32 rfl 3 rfl ?_
            refine g_ild (s := s) (f := s 1) (v := i) hG 1 rfl rfl (by omega) (by decide) dX1_allAbove_33 ?_
            refine g_iload_n hG dX1_allAbove_34 rfl 2 rfl ?_
            refine g_iand (z := nI ((s 1 i) &&& b)) hG dX1_allAbove_35 (nx_and _ _) ?_
            refine g_z_ne (tgt := 41) hG dX1_allAbove_36 (by decide) (zb_and_lt (by omega)) (fun h4 => ?_) (fun h4 => ?_)
            · refine g_iinc (v := nI (i + 1)) (lv' := [(0, .ref (q 0)), (1, .int (nI a)), (2, .int (nI b)), (3, .int (nI (i + 1)))]) hG dX1_allAbove_41 3 rfl (nI_add _ _) (by decide) [1, 2, 3, 0] rfl ?_
              refine g_goto (tgt := 2) hG dX1_allAbove_44 (by decide) ?_
              exact ih (i + 1) (by omega) (by omega) (lt_s hI (fun _ _ => h4))
            · refine g_iconst (v := nI 0) hG dX1_allAbove_39 rfl ?_
              exact g_iret hG rfl (rfl) dX1_allAbove_40 (⟨zr_0 (fun hh => hh i (by omega) h2 h3 h4), rfl⟩)
  refine g_iconst (v := nI 0) hG dX1_allAbove_0 rfl ?_
  refine g_istore_n (lv' := [(0, .ref (q 0)), (1, .int (nI a)), (2, .int (nI b)), (3, .int (nI 0))]) hG dX1_allAbove_1 rfl (by decide) [1, 2, 3, 0] rfl ?_
  exact lp (s 0 0 + 1) 0 (by omega) (by omega) (fun _ h => absurd h (Nat.not_lt_zero _))
set_option maxHeartbeats 4000000 in
/-- findLargest() -/
theorem mM_findLargest (l : Launch) (s : zS) (hm : zm_ok s) : zc_M l zc_ML yX1_findLargest cX1_findLargest 4 4 93 none [] s (fun v s' => ∃ f, s' = zc_ar s 2 f ∧ v = none ∧ ∀ j, j < 2 ^ s 0 0 → f j ≤ 1 ∧ (f j = 1 ↔ zp_La (s 0 0) (s 1) j)) := by
  refine zc_M.of (own := RX1) rfl rfl (fun _ => Nat.le_of_ble_eq_true rfl) ?_
  intro q ca G hG
  show G s 0 [(0, .ref (q 0))] []
  have hn := hm.1
  have hp1 := zb_pow_pos (s 0 0)
  have hp2 := zp_p10 hn
  refine g_eqs (s' := zc_ar s 2 (s 2)) (zc_ar_self s 2).symm ?_
  refine g_aload_n hG dX1_findLargest_0 rfl 0 rfl ?_
  refine g_iconst (v := nI 1) hG dX1_findLargest_1 rfl ?_
  refine g_aload_n hG dX1_findLargest_2 rfl 0 rfl ?_
  refine m_get (s := zc_ar s 2 (s 2)) (v := .int (nI (s 0 0))) hG 0 (by decide) rfl q183 rfl dX1_findLargest_3 ?_
  refine g_ishl (z := nI (2 ^ (s 0 0))) hG dX1_findLargest_6 (nx_shl1 (s 0 0) (by omega)) ?_
  refine g_iconst (v := nI 1) hG dX1_findLargest_7 rfl ?_
  refine g_isub (z := nI ((2 ^ (s 0 0)) - 1)) hG dX1_findLargest_8 (pk_sub (by omega)) ?_
  refine g_call hG (mM_widthF l (zc_ar s 2 (s 2)) hm) 1 q257 q222 q223 q27 q224 (by decide +kernel) rfl ⟨by decide, by decide⟩ (ci := 1) rfl rfl rfl [] rfl (by simp [Value.category]) dX1_findLargest_9 ?_
  rintro _ _ ⟨m, hm10, hk0, rfl, rfl⟩
  show G (zc_ar s 2 (s 2)) 12 [(0, .ref (q 0))] [.int (nI m)]
  have hk0 : zp_Mx (s 0 0) (s 1) (2 ^ s 0 0 - 1) False m := hk0
  have lp : ∀ (k : Nat) (i : Nat) (f : Nat → Nat), i ≤ 2 ^ s 0 0 → 2 ^ s 0 0 + 1 ≤ i + k → (∀ j, j < i → f j ≤ 1 ∧ (f j = 1 ↔ zp_La (s 0 0) (s 1) j)) → G (zc_ar s 2 f) 15 [(0, .ref (q 0)), (1, .int (nI m)), (2, .int (nI i))] [] := by
    intro k
    induction k with
    | zero => intros; omega
    | succ k ih =>
      intro i f hi hk hI
      refine g_iload_n hG dX1_findLargest_15 rfl 2 rfl ?_
      refine g_iconst (v := nI 1) hG dX1_findLargest_16 rfl ?_
      refine g_aload_n hG dX1_findLargest_17 rfl 0 rfl ?_
      refine m_get (s := zc_ar s 2 f) (v := .int (nI (s 0 0))) hG 0 (by decide) rfl q183 rfl dX1_findLargest_18 ?_
      refine g_ishl (z := nI (2 ^ (s 0 0))) hG dX1_findLargest_21 (nx_shl1 (s 0 0) (by omega)) ?_
      refine g_n_ge (tgt := 62) hG dX1_findLargest_22 (by decide) (by omega) (by omega) (fun h1 => ?_) (fun h1 => ?_)
      · exact g_vret hG rfl dX1_findLargest_62 (⟨f, rfl, rfl, fun j hj => hI j (by omega)⟩)
      · refine g_aload_n hG dX1_findLargest_25 rfl 0 rfl ?_
        refine g_iload_n hG dX1_findLargest_26 rfl 2 rfl ?_
        refine g_call hG (mM_sizeOf l (zc_ar s 2 f) i (by omega)) 1 q229 q231 qs17 q27 q232 (by decide +kernel) rfl ⟨by decide, by decide⟩ (ci := 1) rfl rfl rfl [] rfl (by simp [Value.category]) dX1_findLargest_27 ?_
        rintro _ _ ⟨rfl, rfl⟩
        show G (zc_ar s 2 f) 30 [(0, .ref (q 0)), (1, .int (nI m)), (2, .int (nI i))] [.int (nI (zb_cnt i 10))]
        have hc10 := zb_cnt_le i 10
        refine g_istore_n (lv' := [(0, .ref (q 0)), (1, .int (nI m)), (2, .int (nI i)), (3, .int (nI (zb_cnt i 10)))]) hG dX1_findLargest_30 rfl (by decide) [1, 2, 3, 0] rfl ?_
        refine g_aload_n hG dX1_findLargest_31 rfl 0 rfl ?_
        refine m_get (s := zc_ar s 2 f) (v := .ref (q 2)) hG 2 (by decide) rfl q185 rfl dX1_findLargest_32 ?_
        refine g_iload_n hG dX1_findLargest_35 rfl 2 rfl ?_
        refine g_iload_n hG dX1_findLargest_36 rfl 3 rfl ?_
        refine g_iload_n hG dX1_findLargest_37 rfl 1 rfl ?_
        refine g_n_ne (tgt := 54) hG dX1_findLargest_38 (by decide) (by omega) (by omega) (fun h2 => ?_) (fun h2 => ?_)
        · refine g_iconst (v := nI 0) hG dX1_findLargest_54 rfl ?_
          refine g_ist (s := zc_ar s 2 f) (f := f) (v := i) (e := 0) hG 2 rfl rfl rfl (by omega) (by decide) dX1_findLargest_55 ?_
          refine g_eqs (s' := zc_ar s 2 (zc_up f i 0)) (zc_st_ar _ _ _ _ _) ?_
          refine g_iinc (v := nI (i + 1)) (lv' := [(0, .ref (q 0)), (1, .int (nI m)), (2, .int (nI (i + 1))), (3, .int (nI (zb_cnt i 10)))]) hG dX1_findLargest_56 2 rfl (nI_add _ _) (by decide) [1, 2, 0, 3] rfl ?_
          refine g_goto (tgt := 15) hG dX1_findLargest_59 (by decide) ?_
          exact g_sub (lv' := [(0, .ref (q 0)), (1, .int (nI m)), (2, .int (nI (i + 1)))]) hG [0, 1, 2] (rfl) (ih (i + 1) (zc_up f i 0) (by omega) (by omega) (zl_up (P := fun j x => x ≤ 1 ∧ (x = 1 ↔ zp_La (s 0 0) (s 1) j)) hI ⟨by decide, fun z => by omega, fun z => absurd (zp_Mx_uniq z.2.2 hk0) h2⟩))
        · refine g_aload_n hG dX1_findLargest_41 rfl 0 rfl ?_
          refine g_iload_n hG dX1_findLargest_42 rfl 2 rfl ?_
          refine g_iconst (v := nI 0) hG dX1_findLargest_43 rfl ?_
          refine g_as (y := pB False) (zp_t0) ?_
          refine g_call hG (mM_uniform l (zc_ar s 2 f) i False (by omega) hm) 2 q233 q235 qs18 q27 q236 (by decide +kernel) rfl ⟨by decide, by decide⟩ (ci := 1) rfl rfl rfl [.int (nI i), .ref (q 2)] rfl (by simp [Value.category]) dX1_findLargest_44 ?_
          rintro _ _ ⟨rfl, rfl⟩
          show G (zc_ar s 2 f) 47 [(0, .ref (q 0)), (1, .int (nI m)), (2, .int (nI i)), (3, .int (nI (zb_cnt i 10)))] [.int (pB (zp_uni (s 0 0) (s 1) i False)), .int (nI i), .ref (q 2)]
          refine g_b_eq (tgt := 54) hG dX1_findLargest_47 (by decide) (fun h3 => ?_) (fun h3 => ?_)
          · refine g_iconst (v := nI 0) hG dX1_findLargest_54 rfl ?_
            refine g_ist (s := zc_ar s 2 f) (f := f) (v := i) (e := 0) hG 2 rfl rfl rfl (by omega) (by decide) dX1_findLargest_55 ?_
            refine g_eqs (s' := zc_ar s 2 (zc_up f i 0)) (zc_st_ar _ _ _ _ _) ?_
            refine g_iinc (v := nI (i + 1)) (lv' := [(0, .ref (q 0)), (1, .int (nI m)), (2, .int (nI (i + 1))), (3, .int (nI (zb_cnt i 10)))]) hG dX1_findLargest_56 2 rfl (nI_add _ _) (by decide) [1, 2, 0, 3] rfl ?_
            refine g_goto (tgt := 15) hG dX1_findLargest_59 (by decide) ?_
            exact g_sub (lv' := [(0, .ref (q 0)), (1, .int (nI m)), (2, .int (nI (i + 1)))]) hG [0, 1, 2] (rfl) (ih (i + 1) (zc_up f i 0) (by omega) (by omega) (zl_up (P := fun j x => x ≤ 1 ∧ (x = 1 ↔ zp_La (s 0 0) (s 1) j)) hI ⟨by decide, fun z => by omega, fun z => absurd z.2.1 h3⟩))
          · refine g_iconst (v := nI 1) hG dX1_findLargest_50 rfl ?_
            refine g_goto (tgt := 55) hG dX1_findLargest_51 (by decide) ?_
            refine g_ist (s := zc_ar s 2 f) (f := f) (v := i) (e := 1) hG 2 rfl rfl rfl (by omega) (by decide) dX1_findLargest_55 ?_
            refine g_eqs (s' := zc_ar s 2 (zc_up f i 1)) (zc_st_ar _ _ _ _ _) ?_
            refine g_iinc (v := nI (i + 1)) (lv' := [(0, .ref (q 0)), (1, .int (nI m)), (2, .int (nI (i + 1))), (3, .int (nI (zb_cnt i 10)))]) hG dX1_findLargest_56 2 rfl (nI_add _ _) (by decide) [1, 2, 0, 3] rfl ?_
            refine g_goto (tgt := 15) hG dX1_findLargest_59 (by decide) ?_
            exact g_sub (lv' := [(0, .ref (q 0)), (1, .int (nI m)), (2, .int (nI (i + 1)))]) hG [0, 1, 2] (rfl) (ih (i + 1) (zc_up f i 1) (by omega) (by omega) (zl_up (P := fun j x => x ≤ 1 ∧ (x = 1 ↔ zp_La (s 0 0) (s 1) j)) hI ⟨by decide, fun _ => ⟨by omega, h3, by rw [h2]; exact hk0⟩, fun _ => rfl⟩))
  refine g_istore_n (lv' := [(0, .ref (q 0)), (1, .int (nI m))]) hG dX1_findLargest_12 rfl (by decide) [1, 0] rfl ?_
  refine g_iconst (v := nI 0) hG dX1_findLargest_13 rfl ?_
  refine g_istore_n (lv' := [(0, .ref (q 0)), (1, .int (nI m)), (2, .int (nI 0))]) hG dX1_findLargest_14 rfl (by decide) [1, 2, 0] rfl ?_
  exact lp (2 ^ s 0 0 + 1) 0 (s 2) (by omega) (by omega) (fun _ h => absurd h (Nat.not_lt_zero _))
set_option maxHeartbeats 4000000 in
/-- isExtreme(a, lw) -/
theorem mM_isExtreme (l : Launch) (s : zS) (a : Nat) (lw : Prop) (ha : a < 2 ^ 31) (hm : zm_ok s) (hf : ∀ j, j < 2 ^ s 0 0 → s 2 j ≤ 1) : zc_M l zc_ML yX1_isExtreme cX1_isExtreme 4 3 68 (some .boolean) [.int (nI a), .int (pB lw)] s (fun v s' => v = some (.int (pB (∀ o, o < 2 ^ s 0 0 → s 2 o = 1 → (lw → zp_Bw (s 0 0) (s 1) a o) ∧ (¬ lw → zp_Av (s 0 0) (s 1) a o)))) ∧ s = s') := by
  refine zc_M.of (own := RX1) rfl rfl (fun _ => Nat.le_of_ble_eq_true rfl) ?_
  intro q ca G hG
  show G s 0 [(0, .ref (q 0)), (1, .int (nI a)), (2, .int (pB lw))] []
  have hn := hm.1
  have hp1 := zb_pow_pos (s 0 0)
  have hp2 := zp_p10 hn
  have lp : ∀ (k : Nat) (i : Nat), i ≤ 2 ^ s 0 0 → 2 ^ s 0 0 + 1 ≤ i + k → (∀ o, o < i → s 2 o = 1 → (lw → zp_Bw (s 0 0) (s 1) a o) ∧ (¬ lw → zp_Av (s 0 0) (s 1) a o)) → G s 2 [(0, .ref (q 0)), (1, .int (nI a)), (2, .int (pB lw)), (3, .int (nI i))] [] := by
    intro k
    induction k with
    | zero => intros; omega
    | succ k ih =>
      intro i hi hk hI
      refine g_iload_n hG dX1_isExtreme_2 rfl 3 rfl ?_
      refine g_iconst (v := nI 1) hG dX1_isExtreme_3 rfl ?_
      refine g_aload_n hG dX1_isExtreme_4 rfl 0 rfl ?_
      refine m_get (s := s) (v := .int (nI (s 0 0))) hG 0 (by decide) rfl q183 rfl dX1_isExtreme_5 ?_
      refine g_ishl (z := nI (2 ^ (s 0 0))) hG dX1_isExtreme_8 (nx_shl1 (s 0 0) (by omega)) ?_
      refine g_n_ge (tgt := 55) hG dX1_isExtreme_9 (by decide) (by omega) (by omega) (fun h1 => ?_) (fun h1 => ?_)
      · refine g_iconst (v := nI 1) hG dX1_isExtreme_55 rfl ?_
        exact g_iret hG rfl (rfl) dX1_isExtreme_56 (⟨zr_1 (fun o ho => hI o (by omega)), rfl⟩)
      · have hf8 := hf i (by omega)
        refine g_aload_n hG dX1_isExtreme_12 rfl 0 rfl ?_
        refine m_get (s := s) (v := .ref (q 2)) hG 2 (by decide) rfl q185 rfl dX1_isExtreme_13 ?_
        refine g_iload_n hG dX1_isExtreme_16 rfl 3 rfl ?_
        refine g_ild (s := s) (f := s 2) (v := i) hG 2 rfl rfl (by omega) (by decide) dX1_isExtreme_17 ?_
        refine g_iconst (v := nI 1) hG dX1_isExtreme_18 rfl ?_
        refine g_n_ne (tgt := 49) hG dX1_isExtreme_19 (by decide) (by omega) (by omega) (fun h2 => ?_) (fun h2 => ?_)
        · refine g_iinc (v := nI (i + 1)) (lv' := [(0, .ref (q 0)), (1, .int (nI a)), (2, .int (pB lw)), (3, .int (nI (i + 1)))]) hG dX1_isExtreme_49 3 rfl (nI_add _ _) (by decide) [1, 2, 3, 0] rfl ?_
          refine g_goto (tgt := 2) hG dX1_isExtreme_52 (by decide) ?_
          exact ih (i + 1) (by omega) (by omega) (lt_s hI (fun q1 => absurd q1 h2))
        · refine g_iload_n hG dX1_isExtreme_22 rfl 2 rfl ?_
          refine g_b_eq (tgt := 38) hG dX1_isExtreme_23 (by decide) (fun h3 => ?_) (fun h3 => ?_)
          · refine g_aload_n hG dX1_isExtreme_38 rfl 0 rfl ?_
            refine g_iload_n hG dX1_isExtreme_39 rfl 1 rfl ?_
            refine g_iload_n hG dX1_isExtreme_40 rfl 3 rfl ?_
            refine g_call hG (mM_allAbove l s a i ha (by omega) hm) 2 q270 q272 qs24 q27 q273 (by decide +kernel) rfl ⟨by decide, by decide⟩ (ci := 1) rfl rfl rfl [] rfl (by simp [Value.category]) dX1_isExtreme_41 ?_
            rintro _ _ ⟨rfl, rfl⟩
            show G s 44 [(0, .ref (q 0)), (1, .int (nI a)), (2, .int (pB lw)), (3, .int (nI i))] [.int (pB (zp_Av (s 0 0) (s 1) a i))]
            refine g_b_ne (tgt := 49) hG dX1_isExtreme_44 (by decide) (fun h4 => ?_) (fun h4 => ?_)
            · refine g_iinc (v := nI (i + 1)) (lv' := [(0, .ref (q 0)), (1, .int (nI a)), (2, .int (pB lw)), (3, .int (nI (i + 1)))]) hG dX1_isExtreme_49 3 rfl (nI_add _ _) (by decide) [1, 2, 3, 0] rfl ?_
              refine g_goto (tgt := 2) hG dX1_isExtreme_52 (by decide) ?_
              exact ih (i + 1) (by omega) (by omega) (lt_s hI (fun _ => ⟨fun z => absurd z h3, fun _ => h4⟩))
            · refine g_iconst (v := nI 0) hG dX1_isExtreme_47 rfl ?_
              exact g_iret hG rfl (rfl) dX1_isExtreme_48 (⟨zr_0 (fun hh => h4 ((hh i (by omega) h2).2 h3)), rfl⟩)
          · refine g_aload_n hG dX1_isExtreme_26 rfl 0 rfl ?_
            refine g_iload_n hG dX1_isExtreme_27 rfl 1 rfl ?_
            refine g_iload_n hG dX1_isExtreme_28 rfl 3 rfl ?_
            refine g_call hG (mM_allBelow l s a i ha (by omega) hm) 2 q262 q264 qs22 q27 q265 (by decide +kernel) rfl ⟨by decide, by decide⟩ (ci := 1) rfl rfl rfl [] rfl (by simp [Value.category]) dX1_isExtreme_29 ?_
            rintro _ _ ⟨rfl, rfl⟩
            show G s 32 [(0, .ref (q 0)), (1, .int (nI a)), (2, .int (pB lw)), (3, .int (nI i))] [.int (pB (zp_Bw (s 0 0) (s 1) a i))]
            refine g_b_eq (tgt := 47) hG dX1_isExtreme_32 (by decide) (fun h4 => ?_) (fun h4 => ?_)
            · refine g_iconst (v := nI 0) hG dX1_isExtreme_47 rfl ?_
              exact g_iret hG rfl (rfl) dX1_isExtreme_48 (⟨zr_0 (fun hh => h4 ((hh i (by omega) h2).1 h3)), rfl⟩)
            · refine g_goto (tgt := 49) hG dX1_isExtreme_35 (by decide) ?_
              refine g_iinc (v := nI (i + 1)) (lv' := [(0, .ref (q 0)), (1, .int (nI a)), (2, .int (pB lw)), (3, .int (nI (i + 1)))]) hG dX1_isExtreme_49 3 rfl (nI_add _ _) (by decide) [1, 2, 3, 0] rfl ?_
              refine g_goto (tgt := 2) hG dX1_isExtreme_52 (by decide) ?_
              exact ih (i + 1) (by omega) (by omega) (lt_s hI (fun _ => ⟨fun _ => h4, fun z => absurd h3 z⟩))
  refine g_iconst (v := nI 0) hG dX1_isExtreme_0 rfl ?_
  refine g_istore_n (lv' := [(0, .ref (q 0)), (1, .int (nI a)), (2, .int (pB lw)), (3, .int (nI 0))]) hG dX1_isExtreme_1 rfl (by decide) [1, 2, 3, 0] rfl ?_
  exact lp (2 ^ s 0 0 + 1) 0 (by omega) (by omega) (fun _ h => absurd h (Nat.not_lt_zero _))
set_option maxHeartbeats 4000000 in
/-- extreme(lw) -/
theorem mM_extreme (l : Launch) (s : zS) (lw : Prop) (hm : zm_ok s) : zc_M l zc_ML yX1_extreme cX1_extreme 3 5 116 (some .int) [.int (pB lw)] s (fun v s' => ∃ f a, s' = zc_ar s 2 f ∧ v = some (.int (nI a)) ∧ a < 1024 ∧ (zp_Ex (s 0 0) (s 1) lw a ∨ ∀ b, ¬ zp_Ex (s 0 0) (s 1) lw b)) := by
  refine zc_M.of (own := RX1) rfl rfl (fun _ => Nat.le_of_ble_eq_true rfl) ?_
  intro q ca G hG
  show G s 0 [(0, .ref (q 0)), (1, .int (pB lw))] []
  have hn := hm.1
  have hp1 := zb_pow_pos (s 0 0)
  have hp2 := zp_p10 hn
  refine g_aload_n hG dX1_extreme_0 rfl 0 rfl ?_
  refine g_call hG (mM_findLargest l s hm) 0 q253 q255 qs20 q27 q256 (by decide +kernel) rfl ⟨by decide, by decide⟩ (ci := 1) rfl rfl rfl [] rfl (by simp [Value.category]) dX1_extreme_1 ?_
  rintro _ _ ⟨f, rfl, rfl, hf⟩
  show G (zc_ar s 2 f) 4 [(0, .ref (q 0)), (1, .int (pB lw))] []
  have lp : ∀ (k : Nat) (i : Nat), i ≤ 2 ^ s 0 0 → 2 ^ s 0 0 + 1 ≤ i + k → (∀ b, b < i → ¬ zp_Ex (s 0 0) (s 1) lw b) → G (zc_ar s 2 f) 6 [(0, .ref (q 0)), (1, .int (pB lw)), (2, .int (nI i))] [] := by
    intro k
    induction k with
    | zero => intros; omega
    | succ k ih =>
      intro i hi hk hI
      refine g_iload_n hG dX1_extreme_6 rfl 2 rfl ?_
      refine g_iconst (v := nI 1) hG dX1_extreme_7 rfl ?_
      refine g_aload_n hG dX1_extreme_8 rfl 0 rfl ?_
      refine m_get (s := zc_ar s 2 f) (v := .int (nI (s 0 0))) hG 0 (by decide) rfl q183 rfl dX1_extreme_9 ?_
      refine g_ishl (z := nI (2 ^ (s 0 0))) hG dX1_extreme_12 (nx_shl1 (s 0 0) (by omega)) ?_
      refine g_n_ge (tgt := 43) hG dX1_extreme_13 (by decide) (by omega) (by omega) (fun h1 => ?_) (fun h1 => ?_)
      · refine g_iconst (v := nI 0) hG dX1_extreme_43 rfl ?_
        exact g_iret hG rfl (rfl) dX1_extreme_44 (⟨f, 0, rfl, rfl, by decide, Or.inr (fun b hb => hI b (by have := hb.1.1; omega) hb)⟩)
      · have hf8 := hf i (by omega)
        refine g_aload_n hG dX1_extreme_16 rfl 0 rfl ?_
        refine m_get (s := zc_ar s 2 f) (v := .ref (q 2)) hG 2 (by decide) rfl q185 rfl dX1_extreme_17 ?_
        refine g_iload_n hG dX1_extreme_20 rfl 2 rfl ?_
        refine g_ild (s := zc_ar s 2 f) (f := f) (v := i) hG 2 rfl rfl (by omega) (by decide) dX1_extreme_21 ?_
        refine g_iconst (v := nI 1) hG dX1_extreme_22 rfl ?_
        refine g_n_ne (tgt := 37) hG dX1_extreme_23 (by decide) (by omega) (by omega) (fun h2 => ?_) (fun h2 => ?_)
        · refine g_iinc (v := nI (i + 1)) (lv' := [(0, .ref (q 0)), (1, .int (pB lw)), (2, .int (nI (i + 1)))]) hG dX1_extreme_37 2 rfl (nI_add _ _) (by decide) [1, 2, 0] rfl ?_
          refine g_goto (tgt := 6) hG dX1_extreme_40 (by decide) ?_
          exact ih (i + 1) (by omega) (by omega) (lt_s hI (fun hh => h2 (hf8.2.mpr hh.1)))
        · refine g_aload_n hG dX1_extreme_26 rfl 0 rfl ?_
          refine g_iload_n hG dX1_extreme_27 rfl 2 rfl ?_
          refine g_iload_n hG dX1_extreme_28 rfl 1 rfl ?_
          refine g_call hG (mM_isExtreme l (zc_ar s 2 f) i lw (by omega) hm (fun j hj => (hf j hj).1)) 2 q258 q260 qs21 q27 q261 (by decide +kernel) rfl ⟨by decide, by decide⟩ (ci := 1) rfl rfl rfl [] rfl (by simp [Value.category]) dX1_extreme_29 ?_
          rintro _ _ ⟨rfl, rfl⟩
          show G (zc_ar s 2 f) 32 [(0, .ref (q 0)), (1, .int (pB lw)), (2, .int (nI i))] [.int (pB (∀ o, o < 2 ^ s 0 0 → f o = 1 → (lw → zp_Bw (s 0 0) (s 1) i o) ∧ (¬ lw → zp_Av (s 0 0) (s 1) i o)))]
          refine g_b_eq (tgt := 37) hG dX1_extreme_32 (by decide) (fun h3 => ?_) (fun h3 => ?_)
          · refine g_iinc (v := nI (i + 1)) (lv' := [(0, .ref (q 0)), (1, .int (pB lw)), (2, .int (nI (i + 1)))]) hG dX1_extreme_37 2 rfl (nI_add _ _) (by decide) [1, 2, 0] rfl ?_
            refine g_goto (tgt := 6) hG dX1_extreme_40 (by decide) ?_
            exact ih (i + 1) (by omega) (by omega) (lt_s hI (fun hh => h3 (fun o ho h1 => hh.2 o ((hf o ho).2.mp h1))))
          · refine g_iload_n hG dX1_extreme_35 rfl 2 rfl ?_
            exact g_iret hG rfl (rfl) dX1_extreme_36 (⟨f, i, rfl, rfl, by omega, Or.inl ⟨hf8.2.mp h2, fun b hb => h3 b hb.1 ((hf b hb.1).2.mpr hb)⟩⟩)
  refine g_iconst (v := nI 0) hG dX1_extreme_4 rfl ?_
  refine g_istore_n (lv' := [(0, .ref (q 0)), (1, .int (pB lw)), (2, .int (nI 0))]) hG dX1_extreme_5 rfl (by decide) [1, 2, 0] rfl ?_
  exact lp (2 ^ s 0 0 + 1) 0 (by omega) (by omega) (fun _ h => absurd h (Nat.not_lt_zero _))
set_option maxHeartbeats 4000000 in
/-- lowest() -/
theorem mM_lowest (l : Launch) (s : zS) (hm : zm_ok s) : zc_M l zc_ML yX1_lowest cX1_lowest 1 6 138 (some .int) [] s (fun v s' => ∃ f a, s' = zc_ar s 2 f ∧ v = some (.int (nI a)) ∧ a < 1024 ∧ (zp_Ex (s 0 0) (s 1) True a ∨ ∀ b, ¬ zp_Ex (s 0 0) (s 1) True b)) := by
  refine zc_M.of (own := RX1) rfl rfl (fun _ => Nat.le_of_ble_eq_true rfl) ?_
  intro q ca G hG
  show G s 0 [(0, .ref (q 0))] []
  refine g_aload_n hG dX1_lowest_0 rfl 0 rfl ?_
  refine g_iconst (v := nI 1) hG dX1_lowest_1 rfl ?_
  refine g_as (y := pB True) (zp_t1) ?_
  refine g_call hG (mM_extreme l s True hm) 1 q249 q251 qs19 q27 q252 (by decide +kernel) rfl ⟨by decide, by decide⟩ (ci := 1) rfl rfl rfl [] rfl (by simp [Value.category]) dX1_lowest_2 ?_
  rintro _ _ ⟨f, a, rfl, rfl, ha, hE⟩
  show G (zc_ar s 2 f) 5 [(0, .ref (q 0))] [.int (nI a)]
  exact g_iret hG rfl (rfl) dX1_lowest_5 (⟨f, a, rfl, rfl, ha, hE⟩)
set_option maxHeartbeats 4000000 in
/-- highest() -/
theorem mM_highest (l : Launch) (s : zS) (hm : zm_ok s) : zc_M l zc_ML yX1_highest cX1_highest 1 6 138 (some .int) [] s (fun v s' => ∃ f a, s' = zc_ar s 2 f ∧ v = some (.int (nI a)) ∧ a < 1024 ∧ (zp_Ex (s 0 0) (s 1) False a ∨ ∀ b, ¬ zp_Ex (s 0 0) (s 1) False b)) := by
  refine zc_M.of (own := RX1) rfl rfl (fun _ => Nat.le_of_ble_eq_true rfl) ?_
  intro q ca G hG
  show G s 0 [(0, .ref (q 0))] []
  refine g_aload_n hG dX1_highest_0 rfl 0 rfl ?_
  refine g_iconst (v := nI 0) hG dX1_highest_1 rfl ?_
  refine g_as (y := pB False) (zp_t0) ?_
  refine g_call hG (mM_extreme l s False hm) 1 q249 q251 qs19 q27 q252 (by decide +kernel) rfl ⟨by decide, by decide⟩ (ci := 1) rfl rfl rfl [] rfl (by simp [Value.category]) dX1_highest_2 ?_
  rintro _ _ ⟨f, a, rfl, rfl, ha, hE⟩
  show G (zc_ar s 2 f) 5 [(0, .ref (q 0))] [.int (nI a)]
  exact g_iret hG rfl (rfl) dX1_highest_5 (⟨f, a, rfl, rfl, ha, hE⟩)
set_option maxHeartbeats 4000000 in
/-- isLargest(x) -/
theorem mM_isLargest (l : Launch) (s : zS) (x : Int32) (hm : zm_ok s) : zc_M l zc_ML yX1_isLargest cX1_isLargest 3 4 93 (some .boolean) [.int x] s (fun v s' => v = some (.int (pB (∃ a, x = nI a ∧ zp_La (s 0 0) (s 1) a))) ∧ s = s') := by
  refine zc_M.of (own := RX1) rfl rfl (fun _ => Nat.le_of_ble_eq_true rfl) ?_
  intro q ca G hG
  show G s 0 [(0, .ref (q 0)), (1, .int x)] []
  have hn := hm.1
  have hp1 := zb_pow_pos (s 0 0)
  have hp2 := zp_p10 hn
  refine g_aload_n hG dX1_isLargest_0 rfl 0 rfl ?_
  refine g_iload_n hG dX1_isLargest_1 rfl 1 rfl ?_
  refine g_call hG (mM_isSet l s x hn) 1 q197 q199 qs14 q27 q200 (by decide +kernel) rfl ⟨by decide, by decide⟩ (ci := 1) rfl rfl rfl [] rfl (by simp [Value.category]) dX1_isLargest_2 ?_
  rintro _ _ ⟨rfl, rfl⟩
  show G s 5 [(0, .ref (q 0)), (1, .int x)] [.int (pB (zp_is (s 0 0) x))]
  refine g_b_eq (tgt := 17) hG dX1_isLargest_5 (by decide) (fun h1 => ?_) (fun h1 => ?_)
  · refine g_iconst (v := nI 0) hG dX1_isLargest_17 rfl ?_
    exact g_iret hG rfl (rfl) dX1_isLargest_18 (⟨zr_0 (fun ⟨a, e, h2⟩ => h1 ⟨a, h2.1, e⟩), rfl⟩)
  · obtain ⟨a, ha, rfl⟩ := h1
    have hau : ∀ b, nI a = nI b → zp_La (s 0 0) (s 1) b → b = a := fun b e hb => ((nI_eq (by omega) (by have := hb.1; omega)).mp e).symm
    refine g_aload_n hG dX1_isLargest_8 rfl 0 rfl ?_
    refine g_iload_n hG dX1_isLargest_9 rfl 1 rfl ?_
    refine g_iconst (v := nI 0) hG dX1_isLargest_10 rfl ?_
    refine g_as (y := pB False) (zp_t0) ?_
    refine g_call hG (mM_uniform l s a False (by omega) hm) 2 q233 q235 qs18 q27 q236 (by decide +kernel) rfl ⟨by decide, by decide⟩ (ci := 1) rfl rfl rfl [] rfl (by simp [Value.category]) dX1_isLargest_11 ?_
    rintro _ _ ⟨rfl, rfl⟩
    show G s 14 [(0, .ref (q 0)), (1, .int (nI a))] [.int (pB (zp_uni (s 0 0) (s 1) a False))]
    refine g_b_ne (tgt := 19) hG dX1_isLargest_14 (by decide) (fun h2 => ?_) (fun h2 => ?_)
    · refine g_aload_n hG dX1_isLargest_19 rfl 0 rfl ?_
      refine g_iload_n hG dX1_isLargest_20 rfl 1 rfl ?_
      refine g_call hG (mM_sizeOf l s a (by omega)) 1 q229 q231 qs17 q27 q232 (by decide +kernel) rfl ⟨by decide, by decide⟩ (ci := 1) rfl rfl rfl [] rfl (by simp [Value.category]) dX1_isLargest_21 ?_
      rintro _ _ ⟨rfl, rfl⟩
      show G s 24 [(0, .ref (q 0)), (1, .int (nI a))] [.int (nI (zb_cnt a 10))]
      have hc10 := zb_cnt_le a 10
      refine g_istore_n (lv' := [(0, .ref (q 0)), (1, .int (nI a)), (2, .int (nI (zb_cnt a 10)))]) hG dX1_isLargest_24 rfl (by decide) [1, 2, 0] rfl ?_
      refine g_iload_n hG dX1_isLargest_25 rfl 2 rfl ?_
      refine g_aload_n hG dX1_isLargest_26 rfl 0 rfl ?_
      refine g_iconst (v := nI 1) hG dX1_isLargest_27 rfl ?_
      refine g_aload_n hG dX1_isLargest_28 rfl 0 rfl ?_
      refine m_get (s := s) (v := .int (nI (s 0 0))) hG 0 (by decide) rfl q183 rfl dX1_isLargest_29 ?_
      refine g_ishl (z := nI (2 ^ (s 0 0))) hG dX1_isLargest_32 (nx_shl1 (s 0 0) (by omega)) ?_
      refine g_iconst (v := nI 1) hG dX1_isLargest_33 rfl ?_
      refine g_isub (z := nI ((2 ^ (s 0 0)) - 1)) hG dX1_isLargest_34 (pk_sub (by omega)) ?_
      refine g_call hG (mM_widthF l s hm) 1 q257 q222 q223 q27 q224 (by decide +kernel) rfl ⟨by decide, by decide⟩ (ci := 1) rfl rfl rfl [.int (nI (zb_cnt a 10))] rfl (by simp [Value.category]) dX1_isLargest_35 ?_
      rintro _ _ ⟨m, hm10, hk0, rfl, rfl⟩
      show G s 38 [(0, .ref (q 0)), (1, .int (nI a)), (2, .int (nI (zb_cnt a 10)))] [.int (nI m), .int (nI (zb_cnt a 10))]
      refine g_n_ne (tgt := 45) hG dX1_isLargest_38 (by decide) (by omega) (by omega) (fun h3 => ?_) (fun h3 => ?_)
      · refine g_iconst (v := nI 0) hG dX1_isLargest_45 rfl ?_
        exact g_iret hG rfl (rfl) dX1_isLargest_46 (⟨zr_0 (fun ⟨b, e, hb⟩ => h3 (zp_Mx_uniq (by have := hau b e hb; subst this; exact hb.2.2) hk0)), rfl⟩)
      · refine g_iconst (v := nI 1) hG dX1_isLargest_41 rfl ?_
        refine g_goto (tgt := 46) hG dX1_isLargest_42 (by decide) ?_
        exact g_iret hG rfl (rfl) dX1_isLargest_46 (⟨zr_1 ⟨a, rfl, ha, h2, by rw [h3]; exact hk0⟩, rfl⟩)
    · refine g_iconst (v := nI 0) hG dX1_isLargest_17 rfl ?_
      exact g_iret hG rfl (rfl) dX1_isLargest_18 (⟨zr_0 (fun ⟨b, e, hb⟩ => h2 (by have := hau b e hb; subst this; exact hb.2.1)), rfl⟩)
set_option maxHeartbeats 4000000 in
/-- inSomeLargest(x) -/
theorem mM_inSomeLargest (l : Launch) (s : zS) (x : Int32) (hm : zm_ok s) : zc_M l zc_ML yX1_inSomeLargest cX1_inSomeLargest 3 5 116 (some .boolean) [.int x] s (fun v s' => ∃ f, s' = zc_ar s 2 f ∧ v = some (.int (pB (∃ z a, z < s 0 0 ∧ x = nI z ∧ zp_La (s 0 0) (s 1) a ∧ a.testBit z = true)))) := by
  refine zc_M.of (own := RX1) rfl rfl (fun _ => Nat.le_of_ble_eq_true rfl) ?_
  intro q ca G hG
  show G s 0 [(0, .ref (q 0)), (1, .int x)] []
  have hn := hm.1
  have hp1 := zb_pow_pos (s 0 0)
  have hp2 := zp_p10 hn
  refine g_iload_n hG dX1_inSomeLargest_0 rfl 1 rfl ?_
  refine g_if_lt (tgt := 12) hG dX1_inSomeLargest_1 (by decide) (fun h1 => ?_) (fun h1 => ?_)
  · refine g_iconst (v := nI 0) hG dX1_inSomeLargest_12 rfl ?_
    exact g_iret hG rfl (rfl) dX1_inSomeLargest_13 (⟨s 2, (zc_ar_self s 2).symm, zr_0 (fun ⟨z, a, e1, e2, e3, e4⟩ => by rw [e2] at h1; exact nI_pos (by omega) h1)⟩)
  · refine g_iload_n hG dX1_inSomeLargest_4 rfl 1 rfl ?_
    refine g_aload_n hG dX1_inSomeLargest_5 rfl 0 rfl ?_
    refine m_get (s := s) (v := .int (nI (s 0 0))) hG 0 (by decide) rfl q183 rfl dX1_inSomeLargest_6 ?_
    refine g_icmp_lt (tgt := 14) hG dX1_inSomeLargest_9 (by decide) (fun h2 => ?_) (fun h2 => ?_)
    · obtain ⟨z, hz31, rfl⟩ := nI_of h1
      have hzn : z < s 0 0 := (nI_ltI hz31 (by omega)).mp h2
      have hzu : ∀ y, nI z = nI y → y < s 0 0 → y = z := fun y e hy => ((nI_eq hz31 (by omega)).mp e).symm
      refine g_aload_n hG dX1_inSomeLargest_14 rfl 0 rfl ?_
      refine g_call hG (mM_findLargest l s hm) 0 q253 q255 qs20 q27 q256 (by decide +kernel) rfl ⟨by decide, by decide⟩ (ci := 1) rfl rfl rfl [] rfl (by simp [Value.category]) dX1_inSomeLargest_15 ?_
      rintro _ _ ⟨f, rfl, rfl, hf⟩
      show G (zc_ar s 2 f) 18 [(0, .ref (q 0)), (1, .int (nI z))] []
      have lp : ∀ (k : Nat) (i : Nat), i ≤ 2 ^ s 0 0 → 2 ^ s 0 0 + 1 ≤ i + k → (∀ a, a < i → zp_La (s 0 0) (s 1) a → ¬ a.testBit z = true) → G (zc_ar s 2 f) 20 [(0, .ref (q 0)), (1, .int (nI z)), (2, .int (nI i))] [] := by
        intro k
        induction k with
        | zero => intros; omega
        | succ k ih =>
          intro i hi hk hI
          refine g_iload_n hG dX1_inSomeLargest_20 rfl 2 rfl ?_
          refine g_iconst (v := nI 1) hG dX1_inSomeLargest_21 rfl ?_
          refine g_aload_n hG dX1_inSomeLargest_22 rfl 0 rfl ?_
          refine m_get (s := zc_ar s 2 f) (v := .int (nI (s 0 0))) hG 0 (by decide) rfl q183 rfl dX1_inSomeLargest_23 ?_
          refine g_ishl (z := nI (2 ^ (s 0 0))) hG dX1_inSomeLargest_26 (nx_shl1 (s 0 0) (by omega)) ?_
          refine g_n_ge (tgt := 57) hG dX1_inSomeLargest_27 (by decide) (by omega) (by omega) (fun h3 => ?_) (fun h3 => ?_)
          · refine g_iconst (v := nI 0) hG dX1_inSomeLargest_57 rfl ?_
            exact g_iret hG rfl (rfl) dX1_inSomeLargest_58 (⟨f, rfl, zr_0 (fun ⟨y, a, e1, e2, e3, e4⟩ => hI a (by have := e3.1; omega) e3 (by rw [hzu y e2 e1] at e4; exact e4))⟩)
          · have hf8 := hf i (by omega)
            refine g_aload_n hG dX1_inSomeLargest_30 rfl 0 rfl ?_
            refine m_get (s := zc_ar s 2 f) (v := .ref (q 2)) hG 2 (by decide) rfl q185 rfl dX1_inSomeLargest_31 ?_
            refine g_iload_n hG dX1_inSomeLargest_34 rfl 2 rfl ?_
            refine g_ild (s := zc_ar s 2 f) (f := f) (v := i) hG 2 rfl rfl (by omega) (by decide) dX1_inSomeLargest_35 ?_
            refine g_iconst (v := nI 1) hG dX1_inSomeLargest_36 rfl ?_
            refine g_n_ne (tgt := 51) hG dX1_inSomeLargest_37 (by decide) (by omega) (by omega) (fun h4 => ?_) (fun h4 => ?_)
            · refine g_iinc (v := nI (i + 1)) (lv' := [(0, .ref (q 0)), (1, .int (nI z)), (2, .int (nI (i + 1)))]) hG dX1_inSomeLargest_51 2 rfl (nI_add _ _) (by decide) [1, 2, 0] rfl ?_
              refine g_goto (tgt := 20) hG dX1_inSomeLargest_54 (by decide) ?_
              exact ih (i + 1) (by omega) (by omega) (lt_s hI (fun q1 => absurd (hf8.2.mpr q1) h4))
            · refine g_aload_n hG dX1_inSomeLargest_40 rfl 0 rfl ?_
              refine g_iload_n hG dX1_inSomeLargest_41 rfl 2 rfl ?_
              refine g_iload_n hG dX1_inSomeLargest_42 rfl 1 rfl ?_
              refine g_call hG (mM_in l (zc_ar s 2 f) i z (by omega) (by omega)) 2 q201 q203 qs15 q27 q204 (by decide +kernel) rfl ⟨by decide, by decide⟩ (ci := 1) rfl rfl rfl [] rfl (by simp [Value.category]) dX1_inSomeLargest_43 ?_
              rintro _ _ ⟨rfl, rfl⟩
              show G (zc_ar s 2 f) 46 [(0, .ref (q 0)), (1, .int (nI z)), (2, .int (nI i))] [.int (pB (i.testBit z = true))]
              refine g_b_eq (tgt := 51) hG dX1_inSomeLargest_46 (by decide) (fun h5 => ?_) (fun h5 => ?_)
              · refine g_iinc (v := nI (i + 1)) (lv' := [(0, .ref (q 0)), (1, .int (nI z)), (2, .int (nI (i + 1)))]) hG dX1_inSomeLargest_51 2 rfl (nI_add _ _) (by decide) [1, 2, 0] rfl ?_
                refine g_goto (tgt := 20) hG dX1_inSomeLargest_54 (by decide) ?_
                exact ih (i + 1) (by omega) (by omega) (lt_s hI (fun _ q2 => h5 q2))
              · refine g_iconst (v := nI 1) hG dX1_inSomeLargest_49 rfl ?_
                exact g_iret hG rfl (rfl) dX1_inSomeLargest_50 (⟨f, rfl, zr_1 ⟨z, i, hzn, rfl, hf8.2.mp h4, h5⟩⟩)
      refine g_iconst (v := nI 0) hG dX1_inSomeLargest_18 rfl ?_
      refine g_istore_n (lv' := [(0, .ref (q 0)), (1, .int (nI z)), (2, .int (nI 0))]) hG dX1_inSomeLargest_19 rfl (by decide) [1, 2, 0] rfl ?_
      exact lp (2 ^ s 0 0 + 1) 0 (by omega) (by omega) (fun _ h => absurd h (Nat.not_lt_zero _))
    · refine g_iconst (v := nI 0) hG dX1_inSomeLargest_12 rfl ?_
      exact g_iret hG rfl (rfl) dX1_inSomeLargest_13 (⟨s 2, (zc_ar_self s 2).symm, zr_0 (fun ⟨z, a, e1, e2, e3, e4⟩ => h2 (by rw [e2]; exact nI_lt e1 (by omega)))⟩)
end
section
/-! sets by bits; the reference's table of least numbers of chains, and its turning: plain laws -/
theorem zb_disj {a b : Nat} (h : a &&& b = 0) (i : Nat) (h1 : a.testBit i = true) (h2 : b.testBit i = true) : False := by
  have := Nat.testBit_and a b i
  rw [h, h1, h2, Nat.zero_testBit] at this
  exact Bool.noConfusion this
theorem zb_disj' {a b : Nat} (h : ∀ i, a.testBit i = true → b.testBit i = true → False) : a &&& b = 0 := by
  apply Nat.eq_of_testBit_eq
  intro i
  rw [Nat.testBit_and, Nat.zero_testBit]
  cases h1 : a.testBit i <;> cases h2 : b.testBit i <;> first | rfl | exact (h i h1 h2).elim
theorem zb_ext {a b : Nat} (h : ∀ i, a.testBit i = true ↔ b.testBit i = true) : a = b := by
  apply Nat.eq_of_testBit_eq
  intro i
  have := h i
  cases h1 : a.testBit i <;> cases h2 : b.testBit i <;> simp_all
theorem zb_or_iff (a b i : Nat) : (a ||| b).testBit i = true ↔ a.testBit i = true ∨ b.testBit i = true := by rw [Nat.testBit_or, Bool.or_eq_true]
theorem zb_and_iff (a b i : Nat) : (a &&& b).testBit i = true ↔ a.testBit i = true ∧ b.testBit i = true := by rw [Nat.testBit_and, Bool.and_eq_true]
theorem zb_dif_iff (a b i : Nat) : (zb_dif a b).testBit i = true ↔ a.testBit i = true ∧ ¬ b.testBit i = true := by
  rw [zb_dif_bit]
  cases a.testBit i <;> cases b.testBit i <;> simp
theorem zb_pw_iff (v i : Nat) : (2 ^ v).testBit i = true ↔ i = v := by
  constructor
  · intro h
    apply Classical.byContradiction
    intro e
    rw [Nat.testBit_two_pow_of_ne (fun z => e z.symm)] at h
    exact Bool.noConfusion h
  · rintro rfl
    exact Nat.testBit_two_pow_self
theorem zb_full_iff (n i : Nat) : (2 ^ n - 1).testBit i = true ↔ i < n := by
  rw [Nat.testBit_two_pow_sub_one, decide_eq_true_iff]
theorem zb_ne0 {a : Nat} (h : a ≠ 0) : ∃ i, a.testBit i = true := by
  apply Classical.byContradiction
  intro h2
  apply h
  apply zb_ext
  intro i
  constructor
  · exact fun q => absurd ⟨i, q⟩ h2
  · intro q
    rw [Nat.zero_testBit] at q
    exact Bool.noConfusion q
theorem zb_0_iff (i : Nat) : (0 : Nat).testBit i = true ↔ False := by rw [Nat.zero_testBit]; simp
theorem zb_dif_0 {a b : Nat} : zb_dif a b = 0 ↔ zp_sub a b := by
  constructor
  · intro h i hi
    apply Classical.byContradiction
    intro h2
    have := (zb_dif_iff a b i).mpr ⟨hi, h2⟩
    rw [h, zb_0_iff] at this
    exact this
  · intro h
    apply zb_ext
    intro i
    rw [zb_dif_iff, zb_0_iff]
    exact ⟨fun q => q.2 (h i q.1), False.elim⟩
def zp_Asc (n : Nat) (un : Nat → Nat) : Nat → Nat → Nat → Prop
  | 0, _, p => p = 0
  | k + 1, c, p => ∃ d, d < c ∧ d ≠ 0 ∧ zp_sub d p ∧ zp_uni n un d True ∧ zp_Asc n un k d (zb_dif p d)
theorem zp_Asc_mono {n : Nat} {un : Nat → Nat} {k c c' p : Nat} (h : c ≤ c') (hA : zp_Asc n un k c p) : zp_Asc n un k c' p := by
  cases k with
  | zero => exact hA
  | succ k =>
    obtain ⟨d, h1, h2⟩ := hA
    exact ⟨d, by omega, h2⟩
theorem zp_Asc_ins {n : Nat} {un : Nat → Nat} : ∀ (k b r c : Nat), zp_Asc n un k b r → c ≠ 0 → zp_uni n un c True → c &&& r = 0 → zp_Asc n un (k + 1) (max b (c + 1)) (c ||| r) := by
  intro k
  induction k with
  | zero =>
    intro b r c h hc hu hd
    have h : r = 0 := h
    subst h
    refine ⟨c, by omega, hc, fun i hi => (zb_or_iff _ _ _).mpr (Or.inl hi), hu, ?_⟩
    show zb_dif (c ||| 0) c = 0
    rw [zb_dif_0, Nat.or_zero]
    exact zp_sub_refl c
  | succ k ih =>
    intro b r c h hc hu hd
    obtain ⟨d, h1, h2, h3, h4, h5⟩ := h
    have hcd : ∀ i, c.testBit i = true → d.testBit i = true → False := fun i q1 q2 => zb_disj hd i q1 (h3 i q2)
    rcases Nat.lt_trichotomy d c with h6 | h6 | h6
    · refine ⟨c, by omega, hc, fun i hi => (zb_or_iff _ _ _).mpr (Or.inl hi), hu, ?_⟩
      have e : zb_dif (c ||| r) c = r := by
        apply zb_ext
        intro i
        rw [zb_dif_iff, zb_or_iff]
        exact ⟨fun q => q.1.resolve_left q.2, fun q => ⟨Or.inr q, fun z => zb_disj hd i z q⟩⟩
      rw [e]
      exact ⟨d, h6, h2, h3, h4, h5⟩
    · subst h6
      obtain ⟨i, hi⟩ := zb_ne0 hc
      exact (hcd i hi hi).elim
    · refine ⟨d, by omega, h2, fun i hi => (zb_or_iff _ _ _).mpr (Or.inr (h3 i hi)), h4, ?_⟩
      have e : zb_dif (c ||| r) d = c ||| zb_dif r d := by
        apply zb_ext
        intro i
        rw [zb_dif_iff, zb_or_iff, zb_or_iff, zb_dif_iff]
        constructor
        · rintro ⟨q | q, q2⟩
          · exact Or.inl q
          · exact Or.inr ⟨q, q2⟩
        · rintro (q | q)
          · exact ⟨Or.inl q, fun z => hcd i q z⟩
          · exact ⟨Or.inr q.1, q.2⟩
      rw [e]
      have := ih d (zb_dif r d) c h5 hc hu (zb_disj' fun i q1 q2 => zb_disj hd i q1 ((zb_dif_iff _ _ _).mp q2).1)
      rw [show max d (c + 1) = d by omega] at this
      exact this
theorem zp_sort {n : Nat} {un : Nat → Nat} : ∀ (k a : Nat), zp_Cov n un k a → zp_Asc n un k (a + 1) a := by
  intro k
  induction k with
  | zero => exact fun a h => h
  | succ k ih =>
    rintro a ⟨c, r, h1, h2, rfl, h4, h5⟩
    have h6 := zp_Asc_ins k (r + 1) r c (ih r h5) h1 h4 h2
    refine zp_Asc_mono ?_ h6
    have : c ≤ c ||| r := Nat.left_le_or
    have : r ≤ c ||| r := Nat.right_le_or
    omega
def zd_S (n : Nat) (un : Nat → Nat) (a : Nat) (f : Nat → Nat) : Prop := ∀ p, zp_sub p a → f p ≤ 100 ∧ (f p = 100 ∨ zp_Cov n un (f p) p)
def zd_C (n : Nat) (un : Nat → Nat) (a c : Nat) (f : Nat → Nat) : Prop := ∀ k p, zp_sub p a → zp_Asc n un k c p → f p ≤ k
def zd_I (n : Nat) (un : Nat → Nat) (a c r : Nat) (f0 f : Nat → Nat) : Prop := (∀ p, f p ≤ f0 p) ∧ (∀ p, p &&& c = 0 → f p = f0 p) ∧ (∀ r', r' < r → zp_sub r' a → r' &&& c = 0 → f (r' ||| c) ≤ f0 r' + 1) ∧ zd_S n un a f
theorem zd_start {n : Nat} {un : Nat → Nat} {a : Nat} {f : Nat → Nat} (h0 : f 0 = 0) (h : ∀ j, 0 < j → j ≤ a → f j = 100) : zd_S n un a f ∧ zd_C n un a 1 f := by
  constructor
  · intro p hp
    by_cases e : p = 0
    · subst e; rw [h0]; exact ⟨by decide, Or.inr rfl⟩
    · rw [h p (by omega) (zp_sub_le hp)]
      exact ⟨by decide, Or.inl rfl⟩
  · intro k p hp hA
    cases k with
    | zero =>
      have hA : p = 0 := hA
      subst hA; rw [h0]; exact Nat.le_refl _
    | succ k =>
      obtain ⟨d, h1, h2, -⟩ := hA
      omega
theorem zd_0 {n : Nat} {un : Nat → Nat} {a c : Nat} {f : Nat → Nat} (h : zd_S n un a f) : zd_I n un a c 0 f f := ⟨fun _ => Nat.le_refl _, fun _ _ => rfl, fun r' h => absurd h (Nat.not_lt_zero _), h⟩
theorem zd_skip {n : Nat} {un : Nat → Nat} {a c r : Nat} {f0 f : Nat → Nat} (h : zd_I n un a c r f0 f) (hr : zp_sub r a → r &&& c = 0 → False) : zd_I n un a c (r + 1) f0 f := by
  obtain ⟨h1, h2, h3, h4⟩ := h
  refine ⟨h1, h2, fun r' q1 q2 q3 => ?_, h4⟩
  by_cases e : r' = r
  · subst e; exact (hr q2 q3).elim
  · exact h3 r' (by omega) q2 q3
theorem zd_no {n : Nat} {un : Nat → Nat} {a c r : Nat} {f0 f : Nat → Nat} (h : zd_I n un a c r f0 f) (hd : r &&& c = 0) (hr : f (r ||| c) ≤ f r + 1) : zd_I n un a c (r + 1) f0 f := by
  obtain ⟨h1, h2, h3, h4⟩ := h
  refine ⟨h1, h2, fun r' q1 q2 q3 => ?_, h4⟩
  by_cases e : r' = r
  · subst e; rw [← h2 r' hd]; exact hr
  · exact h3 r' (by omega) q2 q3
theorem zd_yes {n : Nat} {un : Nat → Nat} {a c r : Nat} {f0 f : Nat → Nat} (h : zd_I n un a c r f0 f) (hc : c ≠ 0) (hca : zp_sub c a) (hu : zp_uni n un c True) (hra : zp_sub r a) (hd : r &&& c = 0) (hr : f r + 1 < f (r ||| c)) : zd_I n un a c (r + 1) f0 (zc_up f (r ||| c) (f r + 1)) := by
  obtain ⟨h1, h2, h3, h4⟩ := h
  have hrc : zp_sub (r ||| c) a := fun i hi => ((zb_or_iff _ _ _).mp hi).elim (hra i) (hca i)
  have hcc : ∀ p, p &&& c = 0 → p ≠ r ||| c := by
    rintro p hp rfl
    obtain ⟨i, hi⟩ := zb_ne0 hc
    exact zb_disj hp i ((zb_or_iff _ _ _).mpr (Or.inr hi)) hi
  refine ⟨fun p => ?_, fun p hp => ?_, fun r' q1 q2 q3 => ?_, fun p hp => ?_⟩
  · by_cases e : p = r ||| c
    · subst e; rw [zc_up_s]
      have := h1 (r ||| c)
      omega
    · rw [zc_up_n e]; exact h1 p
  · rw [zc_up_n (hcc p hp)]; exact h2 p hp
  · by_cases e : r' = r
    · subst e; rw [zc_up_s, h2 r' q3]; exact Nat.le_refl _
    · have e2 : r' ||| c ≠ r ||| c := by
        intro z
        apply e
        apply zb_ext
        intro i
        have z1 : (r' ||| c).testBit i = true ↔ (r ||| c).testBit i = true := by rw [z]
        rw [zb_or_iff, zb_or_iff] at z1
        constructor
        · intro q
          exact (z1.mp (Or.inl q)).resolve_right (fun y => zb_disj q3 i q y)
        · intro q
          exact (z1.mpr (Or.inl q)).resolve_right (fun y => zb_disj hd i q y)
      rw [zc_up_n e2]
      exact h3 r' (by omega) q2 q3
  · by_cases e : p = r ||| c
    · subst e; rw [zc_up_s]
      have g1 := h4 (r ||| c) hrc
      have g2 := h4 r hra
      refine ⟨by omega, Or.inr ?_⟩
      refine ⟨c, r, hc, ?_, Nat.or_comm _ _, hu, g2.2.resolve_left (by omega)⟩
      rw [Nat.and_comm]; exact hd
    · rw [zc_up_n e]; exact h4 p hp
theorem zd_end {n : Nat} {un : Nat → Nat} {a c : Nat} {f0 f : Nat → Nat} (h : zd_I n un a c (a + 1) f0 f) (hC : zd_C n un a c f0) : zd_C n un a (c + 1) f := by
  obtain ⟨h1, h2, h3, h4⟩ := h
  intro k p hp hA
  cases k with
  | zero => exact Nat.le_trans (h1 p) (hC 0 p hp hA)
  | succ k =>
    obtain ⟨d, g1, g2, g3, g4, g5⟩ := hA
    by_cases e : d = c
    · subst e
      have hs : zp_sub (zb_dif p d) a := fun i hi => hp i ((zb_dif_iff _ _ _).mp hi).1
      have q1 := hC k (zb_dif p d) hs g5
      have q2 := h3 (zb_dif p d) (by have := zp_sub_le hs; omega) hs (zb_disj' fun i y1 y2 => ((zb_dif_iff _ _ _).mp y1).2 y2)
      have q3 : zb_dif p d ||| d = p := by
        apply zb_ext
        intro i
        rw [zb_or_iff, zb_dif_iff]
        constructor
        · rintro (y | y)
          · exact y.1
          · exact g3 i y
        · intro y
          by_cases z : d.testBit i = true
          · exact Or.inr z
          · exact Or.inl ⟨y, z⟩
      rw [q3] at q2
      omega
    · exact Nat.le_trans (h1 p) (hC (k + 1) p hp ⟨d, by omega, g2, g3, g4, g5⟩)
theorem zd_bad {n : Nat} {un : Nat → Nat} {a c : Nat} {f : Nat → Nat} (hC : zd_C n un a c f) (hb : zp_sub c a → zp_uni n un c True → False) : zd_C n un a (c + 1) f := by
  intro k p hp hA
  cases k with
  | zero => exact hC 0 p hp hA
  | succ k =>
    obtain ⟨d, g1, g2, g3, g4, g5⟩ := hA
    by_cases e : d = c
    · subst e
      exact (hb (fun i hi => hp i (g3 i hi)) g4).elim
    · exact hC (k + 1) p hp ⟨d, by omega, g2, g3, g4, g5⟩
/-- the turned order, so far as pairs below (z, u) are read -/
def zt_I (n : Nat) (un : Nat → Nat) (z u : Nat) (f : Nat → Nat) : Prop := ∀ b, b < n → ∀ c, (f b).testBit c = true ↔ ∃ z' u', z' < n ∧ u' < n ∧ (z' < z ∨ (z' = z ∧ u' < u)) ∧ (un z').testBit u' = true ∧ b = n - 1 - u' ∧ c = n - 1 - z'
theorem zt_0 {n : Nat} {un f : Nat → Nat} (h : ∀ j, j < n → f j = 0) : zt_I n un 0 0 f := by
  intro b hb c
  rw [h b hb, zb_0_iff]
  constructor
  · exact False.elim
  · rintro ⟨z', u', -, -, q | q, -⟩ <;> omega
theorem zt_no {n : Nat} {un f : Nat → Nat} {z u : Nat} (h : zt_I n un z u f) (hb : ¬ (un z).testBit u = true) : zt_I n un z (u + 1) f := by
  intro b hb2 c
  rw [h b hb2 c]
  constructor
  · rintro ⟨z', u', h1, h2, h3, h4⟩
    exact ⟨z', u', h1, h2, by omega, h4⟩
  · rintro ⟨z', u', h1, h2, h3, h4, h5⟩
    refine ⟨z', u', h1, h2, ?_, h4, h5⟩
    by_cases e : z' = z ∧ u' = u
    · rw [e.1, e.2] at h4; exact absurd h4 hb
    · omega
theorem zt_yes {n : Nat} {un f : Nat → Nat} {z u : Nat} (hz : z < n) (hu : u < n) (h : zt_I n un z u f) (hb : (un z).testBit u = true) : zt_I n un z (u + 1) (zc_up f (n - 1 - u) (f (n - 1 - u) ||| 2 ^ (n - 1 - z))) := by
  intro b hb2 c
  by_cases e : b = n - 1 - u
  · subst e
    rw [zc_up_s, zb_or_iff, zb_pw_iff, h _ hb2 c]
    constructor
    · rintro (⟨z', u', h1, h2, h3, h4⟩ | rfl)
      · exact ⟨z', u', h1, h2, by omega, h4⟩
      · exact ⟨z, u, hz, hu, Or.inr ⟨rfl, by omega⟩, hb, rfl, rfl⟩
    · rintro ⟨z', u', h1, h2, h3, h4, h5, h6⟩
      by_cases e : z' = z ∧ u' = u
      · right; rw [h6, e.1]
      · left; exact ⟨z', u', h1, h2, by omega, h4, h5, h6⟩
  · rw [zc_up_n e, h b hb2 c]
    constructor
    · rintro ⟨z', u', h1, h2, h3, h4⟩
      exact ⟨z', u', h1, h2, by omega, h4⟩
    · rintro ⟨z', u', h1, h2, h3, h4, h5, h6⟩
      refine ⟨z', u', h1, h2, ?_, h4, h5, h6⟩
      by_cases e2 : z' = z ∧ u' = u
      · exact absurd (by rw [h5, e2.2]) e
      · omega
theorem zt_row {n : Nat} {un f : Nat → Nat} {z : Nat} (h : zt_I n un z n f) : zt_I n un (z + 1) 0 f := by
  intro b hb c
  rw [h b hb c]
  constructor
  · rintro ⟨z', u', h1, h2, h3, h4⟩
    exact ⟨z', u', h1, h2, by omega, h4⟩
  · rintro ⟨z', u', h1, h2, h3, h4⟩
    exact ⟨z', u', h1, h2, by omega, h4⟩
theorem zt_end {n : Nat} {un f : Nat → Nat} (h : zt_I n un n 0 f) : ∀ b, b < n → f b = zp_tr n un b := by
  intro b hb
  apply zb_ext
  intro c
  rw [h b hb c, zp_tr, zb_mk_bit, Bool.and_eq_true, decide_eq_true_iff]
  constructor
  · rintro ⟨z', u', h1, h2, h3, h4, h5, h6⟩
    refine ⟨by omega, ?_⟩
    rw [h6, h5, show n - 1 - (n - 1 - z') = z' by omega, show n - 1 - (n - 1 - u') = u' by omega]
    exact h4
  · rintro ⟨h1, h2⟩
    exact ⟨n - 1 - c, n - 1 - b, by omega, by omega, Or.inl (by omega), h2, by omega, by omega⟩
end
section
set_option maxRecDepth 100000
set_option maxHeartbeats 4000000 in
/-- turn() -/
theorem mM_turn (l : Launch) (s : zS) (hm : zm_ok s) : zc_M l zc_ML yX1_turn cX1_turn 3 1 22 (some .int) [] s (fun v s' => ∃ f g, s' = zc_ar (zc_ar s 2 f) 1 g ∧ v = some (.int (nI (s 0 0))) ∧ (∀ j, j < s 0 0 → g j = zp_tr (s 0 0) (s 1) j) ∧ ∀ j, s 0 0 ≤ j → g j = s 1 j) := by
  refine zc_M.of (own := RX1) rfl rfl (fun _ => Nat.le_of_ble_eq_true rfl) ?_
  intro q ca G hG
  show G s 0 [(0, .ref (q 0))] []
  have hn := hm.1
  have hu := hm.2
  have p3 : ∀ f, zt_I (s 0 0) (s 1) (s 0 0) 0 f → G (zc_ar s 2 f) 106 [(0, .ref (q 0))] [] := by
    intro f hf
    have lp : ∀ (k : Nat) (i : Nat) (g : Nat → Nat), i ≤ s 0 0 → s 0 0 + 1 ≤ i + k → (∀ j, j < i → g j = f j) → (∀ j, i ≤ j → g j = s 1 j) → G (zc_ar (zc_ar s 2 f) 1 g) 108 [(0, .ref (q 0)), (1, .int (nI i))] [] := by
      intro k
      induction k with
      | zero => intros; omega
      | succ k ih =>
        intro i g hi hk hI hJ
        refine g_iload_n hG dX1_turn_108 rfl 1 rfl ?_
        refine g_aload_n hG dX1_turn_109 rfl 0 rfl ?_
        refine m_get (s := zc_ar (zc_ar s 2 f) 1 g) (v := .int (nI (s 0 0))) hG 0 (by decide) rfl q183 rfl dX1_turn_110 ?_
        refine g_n_ge (tgt := 134) hG dX1_turn_113 (by decide) (by omega) (by omega) (fun h1 => ?_) (fun h1 => ?_)
        · refine g_aload_n hG dX1_turn_134 rfl 0 rfl ?_
          refine m_get (s := zc_ar (zc_ar s 2 f) 1 g) (v := .int (nI (s 0 0))) hG 0 (by decide) rfl q183 rfl dX1_turn_135 ?_
          exact g_iret hG rfl (rfl) dX1_turn_138 (⟨f, g, rfl, rfl, fun j hj => by rw [hI j (by omega)]; exact zt_end hf j hj, fun j hj => hJ j (by omega)⟩)
        · refine g_aload_n hG dX1_turn_116 rfl 0 rfl ?_
          refine m_get (s := zc_ar (zc_ar s 2 f) 1 g) (v := .ref (q 1)) hG 1 (by decide) rfl q184 rfl dX1_turn_117 ?_
          refine g_iload_n hG dX1_turn_120 rfl 1 rfl ?_
          refine g_aload_n hG dX1_turn_121 rfl 0 rfl ?_
          refine m_get (s := zc_ar (zc_ar s 2 f) 1 g) (v := .ref (q 2)) hG 2 (by decide) rfl q185 rfl dX1_turn_122 ?_
          refine g_iload_n hG dX1_turn_125 rfl 1 rfl ?_
          refine g_ild (s := zc_ar (zc_ar s 2 f) 1 g) (f := f) (v := i) hG 2 rfl rfl (by omega) (by decide) dX1_turn_126 ?_
          refine g_ist (s := zc_ar (zc_ar s 2 f) 1 g) (f := g) (v := i) (e := f i) hG 1 rfl rfl rfl (by omega) (by decide) dX1_turn_127 ?_
          refine g_eqs (s' := zc_ar (zc_ar s 2 f) 1 (zc_up g i (f i))) (zc_st_ar _ _ _ _ _) ?_
          refine g_iinc (v := nI (i + 1)) (lv' := [(0, .ref (q 0)), (1, .int (nI (i + 1)))]) hG dX1_turn_128 1 rfl (nI_add _ _) (by decide) [1, 0] rfl ?_
          refine g_goto (tgt := 108) hG dX1_turn_131 (by decide) ?_
          exact ih (i + 1) (zc_up g i (f i)) (by omega) (by omega) (zl_up (P := fun j x => x = f j) hI rfl) (fun j hj => by rw [zc_up_n (by omega)]; exact hJ j (by omega))
    refine g_eqs (s' := zc_ar (zc_ar s 2 f) 1 (s 1)) (zc_ar_self (zc_ar s 2 f) 1).symm ?_
    refine g_iconst (v := nI 0) hG dX1_turn_106 rfl ?_
    refine g_istore_n (lv' := [(0, .ref (q 0)), (1, .int (nI 0))]) hG dX1_turn_107 rfl (by decide) [1, 0] rfl ?_
    exact lp (s 0 0 + 1) 0 (s 1) (by omega) (by omega) (fun _ h => absurd h (Nat.not_lt_zero _)) (fun _ _ => rfl)
  have p2 : ∀ (k : Nat) (z : Nat) (f : Nat → Nat), z ≤ s 0 0 → s 0 0 + 1 ≤ z + k → zt_I (s 0 0) (s 1) z 0 f → G (zc_ar s 2 f) 25 [(0, .ref (q 0)), (1, .int (nI z))] [] := by
    intro k
    induction k with
    | zero => intros; omega
    | succ k ih =>
      intro z f hz hk hI
      refine g_iload_n hG dX1_turn_25 rfl 1 rfl ?_
      refine g_aload_n hG dX1_turn_26 rfl 0 rfl ?_
      refine m_get (s := zc_ar s 2 f) (v := .int (nI (s 0 0))) hG 0 (by decide) rfl q183 rfl dX1_turn_27 ?_
      refine g_n_ge (tgt := 106) hG dX1_turn_30 (by decide) (by omega) (by omega) (fun h1 => ?_) (fun h1 => ?_)
      · obtain rfl : z = s 0 0 := by omega
        exact g_sub (lv' := [(0, .ref (q 0))]) hG [0] rfl (p3 f hI)
      · have lp2 : ∀ (k2 : Nat) (u : Nat) (f : Nat → Nat), u ≤ s 0 0 → s 0 0 + 1 ≤ u + k2 → zt_I (s 0 0) (s 1) z u f → G (zc_ar s 2 f) 35 [(0, .ref (q 0)), (1, .int (nI z)), (2, .int (nI u))] [] := by
          intro k2
          induction k2 with
          | zero => intros; omega
          | succ k2 ih2 =>
            intro u f hu2 hk2 hJ
            refine g_iload_n hG dX1_turn_35 rfl 2 rfl ?_
            refine g_aload_n hG dX1_turn_36 rfl 0 rfl ?_
            refine m_get (s := zc_ar s 2 f) (v := .int (nI (s 0 0))) hG 0 (by decide) rfl q183 rfl dX1_turn_37 ?_
            refine g_n_ge (tgt := 100) hG dX1_turn_40 (by decide) (by omega) (by omega) (fun h3 => ?_) (fun h3 => ?_)
            · have hJ : zt_I (s 0 0) (s 1) z (s 0 0) f := (show u = s 0 0 by omega) ▸ hJ
              refine g_iinc (v := nI (z + 1)) (lv' := [(0, .ref (q 0)), (1, .int (nI (z + 1))), (2, .int (nI u))]) hG dX1_turn_100 1 rfl (nI_add _ _) (by decide) [1, 0, 2] rfl ?_
              refine g_goto (tgt := 25) hG dX1_turn_103 (by decide) ?_
              exact g_sub (lv' := [(0, .ref (q 0)), (1, .int (nI (z + 1)))]) hG [0, 1] (rfl) (ih (z + 1) f (by omega) (by omega) (zt_row hJ))
            · have hz8 := hu z (by omega)
              refine g_aload_n hG dX1_turn_43 rfl 0 rfl ?_
              refine g_aload_n hG dX1_turn_44 rfl 0 rfl ?_
              refine m_get (s := zc_ar s 2 f) (v := .ref (q 1)) hG 1 (by decide) rfl q184 rfl dX1_turn_45 ?_
              refine g_iload_n hG dX1_turn_48 rfl 1 rfl ?_
              refine g_ild (s := zc_ar s 2 f) (f := s 1) (v := z) hG 1 rfl rfl (by omega) (by decide) dX1_turn_49 ?_
              refine g_iload_n hG dX1_turn_50 rfl 2 rfl ?_
              refine g_call hG (mM_in l (zc_ar s 2 f) (s 1 z) u (by omega) (by omega)) 2 q201 q203 qs15 q27 q204 (by decide +kernel) rfl ⟨by decide, by decide⟩ (ci := 1) rfl rfl rfl [] rfl (by simp [Value.category]) dX1_turn_51 ?_
              rintro _ _ ⟨rfl, rfl⟩
              show G (zc_ar s 2 f) 54 [(0, .ref (q 0)), (1, .int (nI z)), (2, .int (nI u))] [.int (pB ((s 1 z).testBit u = true))]
              refine g_b_eq (tgt := 94) hG dX1_turn_54 (by decide) (fun h4 => ?_) (fun h4 => ?_)
              · refine g_iinc (v := nI (u + 1)) (lv' := [(0, .ref (q 0)), (1, .int (nI z)), (2, .int (nI (u + 1)))]) hG dX1_turn_94 2 rfl (nI_add _ _) (by decide) [1, 2, 0] rfl ?_
                refine g_goto (tgt := 35) hG dX1_turn_97 (by decide) ?_
                exact ih2 (u + 1) f (by omega) (by omega) (zt_no hJ h4)
              · refine g_aload_n hG dX1_turn_57 rfl 0 rfl ?_
                refine m_get (s := zc_ar s 2 f) (v := .ref (q 2)) hG 2 (by decide) rfl q185 rfl dX1_turn_58 ?_
                refine g_aload_n hG dX1_turn_61 rfl 0 rfl ?_
                refine m_get (s := zc_ar s 2 f) (v := .int (nI (s 0 0))) hG 0 (by decide) rfl q183 rfl dX1_turn_62 ?_
                refine g_iconst (v := nI 1) hG dX1_turn_65 rfl ?_
                refine g_isub (z := nI ((s 0 0) - 1)) hG dX1_turn_66 (pk_sub (by omega)) ?_
                refine g_iload_n hG dX1_turn_67 rfl 2 rfl ?_
                refine g_isub (z := nI (((s 0 0) - 1) - u)) hG dX1_turn_68 (pk_sub (by omega)) ?_
                refine g_aload_n hG dX1_turn_69 rfl 0 rfl ?_
                refine m_get (s := zc_ar s 2 f) (v := .ref (q 2)) hG 2 (by decide) rfl q185 rfl dX1_turn_70 ?_
                refine g_aload_n hG dX1_turn_73 rfl 0 rfl ?_
                refine m_get (s := zc_ar s 2 f) (v := .int (nI (s 0 0))) hG 0 (by decide) rfl q183 rfl dX1_turn_74 ?_
                refine g_iconst (v := nI 1) hG dX1_turn_77 rfl ?_
                refine g_isub (z := nI ((s 0 0) - 1)) hG dX1_turn_78 (pk_sub (by omega)) ?_
                refine g_iload_n hG dX1_turn_79 rfl 2 rfl ?_
                refine g_isub (z := nI (((s 0 0) - 1) - u)) hG dX1_turn_80 (pk_sub (by omega)) ?_
                refine g_ild (s := zc_ar s 2 f) (f := f) (v := ((s 0 0) - 1) - u) hG 2 rfl rfl (by omega) (by decide) dX1_turn_81 ?_
                refine g_iconst (v := nI 1) hG dX1_turn_82 rfl ?_
                refine g_aload_n hG dX1_turn_83 rfl 0 rfl ?_
                refine m_get (s := zc_ar s 2 f) (v := .int (nI (s 0 0))) hG 0 (by decide) rfl q183 rfl dX1_turn_84 ?_
                refine g_iconst (v := nI 1) hG dX1_turn_87 rfl ?_
                refine g_isub (z := nI ((s 0 0) - 1)) hG dX1_turn_88 (pk_sub (by omega)) ?_
                refine g_iload_n hG dX1_turn_89 rfl 1 rfl ?_
                refine g_isub (z := nI (((s 0 0) - 1) - z)) hG dX1_turn_90 (pk_sub (by omega)) ?_
                refine g_ishl (z := nI (2 ^ (((s 0 0) - 1) - z))) hG dX1_turn_91 (nx_shl1 (((s 0 0) - 1) - z) (by omega)) ?_
                refine g_ior (z := nI ((f (((s 0 0) - 1) - u)) ||| (2 ^ (((s 0 0) - 1) - z)))) hG dX1_turn_92 (nx_or _ _) ?_
                refine g_ist (s := zc_ar s 2 f) (f := f) (v := ((s 0 0) - 1) - u) (e := (f (((s 0 0) - 1) - u)) ||| (2 ^ (((s 0 0) - 1) - z))) hG 2 rfl rfl rfl (by omega) (by decide) dX1_turn_93 ?_
                refine g_eqs (s' := zc_ar s 2 (zc_up f (((s 0 0) - 1) - u) ((f (((s 0 0) - 1) - u)) ||| (2 ^ (((s 0 0) - 1) - z))))) (zc_st_ar _ _ _ _ _) ?_
                refine g_iinc (v := nI (u + 1)) (lv' := [(0, .ref (q 0)), (1, .int (nI z)), (2, .int (nI (u + 1)))]) hG dX1_turn_94 2 rfl (nI_add _ _) (by decide) [1, 2, 0] rfl ?_
                refine g_goto (tgt := 35) hG dX1_turn_97 (by decide) ?_
                exact ih2 (u + 1) _ (by omega) (by omega) (zt_yes (by omega) (by omega) hJ h4)
        refine g_iconst (v := nI 0) hG dX1_turn_33 rfl ?_
        refine g_istore_n (lv' := [(0, .ref (q 0)), (1, .int (nI z)), (2, .int (nI 0))]) hG dX1_turn_34 rfl (by decide) [1, 2, 0] rfl ?_
        exact lp2 (s 0 0 + 1) 0 f (by omega) (by omega) hI
  have p1 : ∀ (k : Nat) (i : Nat) (f : Nat → Nat), i ≤ s 0 0 → s 0 0 + 1 ≤ i + k → (∀ j, j < i → f j = 0) → G (zc_ar s 2 f) 2 [(0, .ref (q 0)), (1, .int (nI i))] [] := by
    intro k
    induction k with
    | zero => intros; omega
    | succ k ih =>
      intro i f hi hk hI
      refine g_iload_n hG dX1_turn_2 rfl 1 rfl ?_
      refine g_aload_n hG dX1_turn_3 rfl 0 rfl ?_
      refine m_get (s := zc_ar s 2 f) (v := .int (nI (s 0 0))) hG 0 (by decide) rfl q183 rfl dX1_turn_4 ?_
      refine g_n_ge (tgt := 23) hG dX1_turn_7 (by decide) (by omega) (by omega) (fun h1 => ?_) (fun h1 => ?_)
      · refine g_iconst (v := nI 0) hG dX1_turn_23 rfl ?_
        refine g_istore_n (lv' := [(0, .ref (q 0)), (1, .int (nI 0))]) hG dX1_turn_24 rfl (by decide) [1, 0] rfl ?_
        exact p2 (s 0 0 + 1) 0 f (by omega) (by omega) (zt_0 (fun j hj => hI j (by omega)))
      · refine g_aload_n hG dX1_turn_10 rfl 0 rfl ?_
        refine m_get (s := zc_ar s 2 f) (v := .ref (q 2)) hG 2 (by decide) rfl q185 rfl dX1_turn_11 ?_
        refine g_iload_n hG dX1_turn_14 rfl 1 rfl ?_
        refine g_iconst (v := nI 0) hG dX1_turn_15 rfl ?_
        refine g_ist (s := zc_ar s 2 f) (f := f) (v := i) (e := 0) hG 2 rfl rfl rfl (by omega) (by decide) dX1_turn_16 ?_
        refine g_eqs (s' := zc_ar s 2 (zc_up f i 0)) (zc_st_ar _ _ _ _ _) ?_
        refine g_iinc (v := nI (i + 1)) (lv' := [(0, .ref (q 0)), (1, .int (nI (i + 1)))]) hG dX1_turn_17 1 rfl (nI_add _ _) (by decide) [1, 0] rfl ?_
        refine g_goto (tgt := 2) hG dX1_turn_20 (by decide) ?_
        exact ih (i + 1) (zc_up f i 0) (by omega) (by omega) (zl_up (P := fun j x => x = 0) hI rfl)
  refine g_eqs (s' := zc_ar s 2 (s 2)) (zc_ar_self s 2).symm ?_
  refine g_iconst (v := nI 0) hG dX1_turn_0 rfl ?_
  refine g_istore_n (lv' := [(0, .ref (q 0)), (1, .int (nI 0))]) hG dX1_turn_1 rfl (by decide) [1, 0] rfl ?_
  exact p1 (s 0 0 + 1) 0 (s 2) (by omega) (by omega) (fun _ h => absurd h (Nat.not_lt_zero _))
theorem zd_C_end {n : Nat} {un : Nat → Nat} {a c j : Nat} {f : Nat → Nat} (h : zd_C n un a c f) (hc : a + 1 ≤ c) (hj : zp_Cov n un j a) : f a ≤ j := h j a (zp_sub_refl a) (zp_Asc_mono hc (zp_sort j a hj))
set_option maxHeartbeats 4000000 in
/-- chains(x) -/
theorem mM_chains (l : Launch) (s : zS) (x : Int32) (hm : zm_ok s) : zc_M l zc_ML yX1_chains cX1_chains 5 2 47 (some .int) [.int x] s (fun v s' => ∃ f, s' = zc_ar s 2 f ∧ ((¬ zp_is (s 0 0) x ∧ v = some (.int (-1))) ∨ (∃ a k, a < 2 ^ s 0 0 ∧ x = nI a ∧ k ≤ 100 ∧ (k = 100 ∨ zp_Cov (s 0 0) (s 1) k a) ∧ (∀ j, zp_Cov (s 0 0) (s 1) j a → k ≤ j) ∧ v = some (.int (nI k))))) := by
  refine zc_M.of (own := RX1) rfl rfl (fun _ => Nat.le_of_ble_eq_true rfl) ?_
  intro q ca G hG
  show G s 0 [(0, .ref (q 0)), (1, .int x)] []
  have hn := hm.1
  have hp2 := zp_p10 hn
  refine g_aload_n hG dX1_chains_0 rfl 0 rfl ?_
  refine g_iload_n hG dX1_chains_1 rfl 1 rfl ?_
  refine g_call hG (mM_isSet l s x hn) 1 q197 q199 qs14 q27 q200 (by decide +kernel) rfl ⟨by decide, by decide⟩ (ci := 1) rfl rfl rfl [] rfl (by simp [Value.category]) dX1_chains_2 ?_
  rintro _ _ ⟨rfl, rfl⟩
  show G s 5 [(0, .ref (q 0)), (1, .int x)] [.int (pB (zp_is (s 0 0) x))]
  refine g_b_ne (tgt := 10) hG dX1_chains_5 (by decide) (fun h1 => ?_) (fun h1 => ?_)
  · obtain ⟨a, ha, rfl⟩ := h1
    have ha10 : a < 1024 := by omega
    have p2 : ∀ (k : Nat) (c : Nat) (f : Nat → Nat), 0 < c → c ≤ a + 1 → a + 2 ≤ c + k → zd_S (s 0 0) (s 1) a f → zd_C (s 0 0) (s 1) a c f → G (zc_ar s 2 f) 41 [(0, .ref (q 0)), (1, .int (nI a)), (2, .int (nI c))] [] := by
      intro k
      induction k with
      | zero => intros; omega
      | succ k ih =>
        intro c f hc0 hca hk hS hC
        refine g_iload_n hG dX1_chains_41 rfl 2 rfl ?_
        refine g_iload_n hG dX1_chains_42 rfl 1 rfl ?_
        refine g_n_gt (tgt := 149) hG dX1_chains_43 (by decide) (by omega) (by omega) (fun h3 => ?_) (fun h3 => ?_)
        · refine g_aload_n hG dX1_chains_149 rfl 0 rfl ?_
          refine m_get (s := zc_ar s 2 f) (v := .ref (q 2)) hG 2 (by decide) rfl q185 rfl dX1_chains_150 ?_
          refine g_iload_n hG dX1_chains_153 rfl 1 rfl ?_
          refine g_ild (s := zc_ar s 2 f) (f := f) (v := a) hG 2 rfl rfl (by omega) (by decide) dX1_chains_154 ?_
          exact g_iret hG rfl (rfl) dX1_chains_155 (⟨f, rfl, Or.inr ⟨a, f a, ha, rfl, (hS a (zp_sub_refl a)).1, (hS a (zp_sub_refl a)).2, fun j hj => zd_C_end hC (by omega) hj, rfl⟩⟩)
        · have nx : ∀ f2 : Nat → Nat, zd_S (s 0 0) (s 1) a f2 → zd_C (s 0 0) (s 1) a (c + 1) f2 → G (zc_ar s 2 f2) 143 [(0, .ref (q 0)), (1, .int (nI a)), (2, .int (nI c))] [] := by
            intro f2 hS2 hC2
            refine g_iinc (v := nI (c + 1)) (lv' := [(0, .ref (q 0)), (1, .int (nI a)), (2, .int (nI (c + 1)))]) hG dX1_chains_143 2 rfl (nI_add _ _) (by decide) [1, 2, 0] rfl ?_
            refine g_goto (tgt := 41) hG dX1_chains_146 (by decide) ?_
            exact ih (c + 1) f2 (by omega) (by omega) (by omega) hS2 hC2
          refine g_iload_n hG dX1_chains_46 rfl 2 rfl ?_
          refine g_iload_n hG dX1_chains_47 rfl 1 rfl ?_
          refine g_iconst (v := -1) hG dX1_chains_48 rfl ?_
          refine g_ixor (z := nI a ^^^ (-1)) hG dX1_chains_49 (rfl) ?_
          refine g_iand (z := nI (zb_dif c a)) hG dX1_chains_50 (nx_not _ _) ?_
          refine g_z_ne (tgt := 67) hG dX1_chains_51 (by decide) (Nat.lt_of_le_of_lt (zb_dif_le _ _) (by omega)) (fun h4 => ?_) (fun h4 => ?_)
          · refine g_iconst (v := nI 0) hG dX1_chains_67 rfl ?_
            refine g_istore_n (lv' := [(0, .ref (q 0)), (1, .int (nI a)), (2, .int (nI c)), (3, .int (nI 0))]) hG dX1_chains_68 rfl (by decide) [1, 2, 3, 0] rfl ?_
            refine g_iconst (v := nI 0) hG dX1_chains_69 rfl ?_
            refine g_istore (lv' := [(0, .ref (q 0)), (1, .int (nI a)), (2, .int (nI c)), (3, .int (nI 0)), (4, .int (nI 0))]) hG dX1_chains_70 (by decide) [1, 2, 3, 4, 0] rfl ?_
            refine g_iload_n hG dX1_chains_72 rfl 3 rfl ?_
            refine g_z_eq (tgt := 143) hG dX1_chains_73 (by decide) (by omega) (fun h9 => ?_) (fun h9 => ?_)
            · exact g_sub (lv' := [(0, .ref (q 0)), (1, .int (nI a)), (2, .int (nI c))]) hG [0, 1, 2] (rfl) (nx f hS (zd_bad hC (fun q1 _ => h4 (zb_dif_0.mpr q1))))
            · exact absurd rfl h9
          · have h4 : zp_sub c a := zb_dif_0.mp h4
            refine g_aload_n hG dX1_chains_54 rfl 0 rfl ?_
            refine g_iload_n hG dX1_chains_55 rfl 2 rfl ?_
            refine g_iconst (v := nI 1) hG dX1_chains_56 rfl ?_
            refine g_as (y := pB True) (zp_t1) ?_
            refine g_call hG (mM_uniform l (zc_ar s 2 f) c True (by omega) hm) 2 q233 q235 qs18 q27 q236 (by decide +kernel) rfl ⟨by decide, by decide⟩ (ci := 1) rfl rfl rfl [] rfl (by simp [Value.category]) dX1_chains_57 ?_
            rintro _ _ ⟨rfl, rfl⟩
            show G (zc_ar s 2 f) 60 [(0, .ref (q 0)), (1, .int (nI a)), (2, .int (nI c))] [.int (pB (zp_uni (s 0 0) (s 1) c True))]
            refine g_b_eq (tgt := 67) hG dX1_chains_60 (by decide) (fun h5 => ?_) (fun h5 => ?_)
            · refine g_iconst (v := nI 0) hG dX1_chains_67 rfl ?_
              refine g_istore_n (lv' := [(0, .ref (q 0)), (1, .int (nI a)), (2, .int (nI c)), (3, .int (nI 0))]) hG dX1_chains_68 rfl (by decide) [1, 2, 3, 0] rfl ?_
              refine g_iconst (v := nI 0) hG dX1_chains_69 rfl ?_
              refine g_istore (lv' := [(0, .ref (q 0)), (1, .int (nI a)), (2, .int (nI c)), (3, .int (nI 0)), (4, .int (nI 0))]) hG dX1_chains_70 (by decide) [1, 2, 3, 4, 0] rfl ?_
              refine g_iload_n hG dX1_chains_72 rfl 3 rfl ?_
              refine g_z_eq (tgt := 143) hG dX1_chains_73 (by decide) (by omega) (fun h9 => ?_) (fun h9 => ?_)
              · exact g_sub (lv' := [(0, .ref (q 0)), (1, .int (nI a)), (2, .int (nI c))]) hG [0, 1, 2] (rfl) (nx f hS (zd_bad hC (fun _ q2 => h5 q2)))
              · exact absurd rfl h9
            · have lp2 : ∀ (k2 : Nat) (r : Nat) (f2 : Nat → Nat), r ≤ a + 1 → a + 2 ≤ r + k2 → zd_I (s 0 0) (s 1) a c r f f2 → G (zc_ar s 2 f2) 72 [(0, .ref (q 0)), (1, .int (nI a)), (2, .int (nI c)), (3, .int (nI 1)), (4, .int (nI r))] [] := by
                intro k2
                induction k2 with
                | zero => intros; omega
                | succ k2 ih2 =>
                  intro r f2 hr hk2 hI
                  refine g_iload_n hG dX1_chains_72 rfl 3 rfl ?_
                  refine g_z_eq (tgt := 143) hG dX1_chains_73 (by decide) (by omega) (fun h6 => ?_) (fun h6 => ?_)
                  · exact absurd h6 (by decide)
                  · refine g_iload hG dX1_chains_76 4 rfl ?_
                    refine g_iload_n hG dX1_chains_78 rfl 1 rfl ?_
                    refine g_n_gt (tgt := 143) hG dX1_chains_79 (by decide) (by omega) (by omega) (fun h7 => ?_) (fun h7 => ?_)
                    · obtain rfl : r = a + 1 := by omega
                      exact g_sub (lv' := [(0, .ref (q 0)), (1, .int (nI a)), (2, .int (nI c))]) hG [0, 1, 2] (rfl) (nx f2 hI.2.2.2 (zd_end hI hC))
                    · refine g_iload hG dX1_chains_82 4 rfl ?_
                      refine g_iload_n hG dX1_chains_84 rfl 2 rfl ?_
                      refine g_iand (z := nI (r &&& c)) hG dX1_chains_85 (nx_and _ _) ?_
                      refine g_z_ne (tgt := 137) hG dX1_chains_86 (by decide) (zb_and_lt (by omega)) (fun h8 => ?_) (fun h8 => ?_)
                      · refine g_iinc (v := nI (r + 1)) (lv' := [(0, .ref (q 0)), (1, .int (nI a)), (2, .int (nI c)), (3, .int (nI 1)), (4, .int (nI (r + 1)))]) hG dX1_chains_137 4 rfl (nI_add _ _) (by decide) [1, 2, 3, 4, 0] rfl ?_
                        refine g_goto (tgt := 72) hG dX1_chains_140 (by decide) ?_
                        exact ih2 (r + 1) f2 (by omega) (by omega) (zd_skip hI (fun _ q2 => h8 q2))
                      · refine g_iload hG dX1_chains_89 4 rfl ?_
                        refine g_iload_n hG dX1_chains_91 rfl 1 rfl ?_
                        refine g_iconst (v := -1) hG dX1_chains_92 rfl ?_
                        refine g_ixor (z := nI a ^^^ (-1)) hG dX1_chains_93 (rfl) ?_
                        refine g_iand (z := nI (zb_dif r a)) hG dX1_chains_94 (nx_not _ _) ?_
                        refine g_z_ne (tgt := 137) hG dX1_chains_95 (by decide) (Nat.lt_of_le_of_lt (zb_dif_le _ _) (by omega)) (fun h10 => ?_) (fun h10 => ?_)
                        · refine g_iinc (v := nI (r + 1)) (lv' := [(0, .ref (q 0)), (1, .int (nI a)), (2, .int (nI c)), (3, .int (nI 1)), (4, .int (nI (r + 1)))]) hG dX1_chains_137 4 rfl (nI_add _ _) (by decide) [1, 2, 3, 4, 0] rfl ?_
                          refine g_goto (tgt := 72) hG dX1_chains_140 (by decide) ?_
                          exact ih2 (r + 1) f2 (by omega) (by omega) (zd_skip hI (fun q1 _ => h10 (zb_dif_0.mpr q1)))
                        · have h10 : zp_sub r a := zb_dif_0.mp h10
                          have hrc : r ||| c ≤ a := zp_sub_le (fun i hi => ((zb_or_iff _ _ _).mp hi).elim (h10 i) (h4 i))
                          have hs1 := (hI.2.2.2 r h10).1
                          have hs2 := (hI.2.2.2 (r ||| c) (fun i hi => ((zb_or_iff _ _ _).mp hi).elim (h10 i) (h4 i))).1
                          refine g_aload_n hG dX1_chains_98 rfl 0 rfl ?_
                          refine m_get (s := zc_ar s 2 f2) (v := .ref (q 2)) hG 2 (by decide) rfl q185 rfl dX1_chains_99 ?_
                          refine g_iload hG dX1_chains_102 4 rfl ?_
                          refine g_ild (s := zc_ar s 2 f2) (f := f2) (v := r) hG 2 rfl rfl (by omega) (by decide) dX1_chains_104 ?_
                          refine g_iconst (v := nI 1) hG dX1_chains_105 rfl ?_
                          refine g_iadd (z := nI ((f2 r) + 1)) hG dX1_chains_106 (nI_add _ _) ?_
                          refine g_aload_n hG dX1_chains_107 rfl 0 rfl ?_
                          refine m_get (s := zc_ar s 2 f2) (v := .ref (q 2)) hG 2 (by decide) rfl q185 rfl dX1_chains_108 ?_
                          refine g_iload hG dX1_chains_111 4 rfl ?_
                          refine g_iload_n hG dX1_chains_113 rfl 2 rfl ?_
                          refine g_ior (z := nI (r ||| c)) hG dX1_chains_114 (nx_or _ _) ?_
                          refine g_ild (s := zc_ar s 2 f2) (f := f2) (v := r ||| c) hG 2 rfl rfl (by omega) (by decide) dX1_chains_115 ?_
                          refine g_n_ge (tgt := 137) hG dX1_chains_116 (by decide) (by omega) (by omega) (fun h11 => ?_) (fun h11 => ?_)
                          · refine g_iinc (v := nI (r + 1)) (lv' := [(0, .ref (q 0)), (1, .int (nI a)), (2, .int (nI c)), (3, .int (nI 1)), (4, .int (nI (r + 1)))]) hG dX1_chains_137 4 rfl (nI_add _ _) (by decide) [1, 2, 3, 4, 0] rfl ?_
                            refine g_goto (tgt := 72) hG dX1_chains_140 (by decide) ?_
                            exact ih2 (r + 1) f2 (by omega) (by omega) (zd_no hI h8 h11)
                          · refine g_aload_n hG dX1_chains_119 rfl 0 rfl ?_
                            refine m_get (s := zc_ar s 2 f2) (v := .ref (q 2)) hG 2 (by decide) rfl q185 rfl dX1_chains_120 ?_
                            refine g_iload hG dX1_chains_123 4 rfl ?_
                            refine g_iload_n hG dX1_chains_125 rfl 2 rfl ?_
                            refine g_ior (z := nI (r ||| c)) hG dX1_chains_126 (nx_or _ _) ?_
                            refine g_aload_n hG dX1_chains_127 rfl 0 rfl ?_
                            refine m_get (s := zc_ar s 2 f2) (v := .ref (q 2)) hG 2 (by decide) rfl q185 rfl dX1_chains_128 ?_
                            refine g_iload hG dX1_chains_131 4 rfl ?_
                            refine g_ild (s := zc_ar s 2 f2) (f := f2) (v := r) hG 2 rfl rfl (by omega) (by decide) dX1_chains_133 ?_
                            refine g_iconst (v := nI 1) hG dX1_chains_134 rfl ?_
                            refine g_iadd (z := nI ((f2 r) + 1)) hG dX1_chains_135 (nI_add _ _) ?_
                            refine g_ist (s := zc_ar s 2 f2) (f := f2) (v := r ||| c) (e := (f2 r) + 1) hG 2 rfl rfl rfl (by omega) (by decide) dX1_chains_136 ?_
                            refine g_eqs (s' := zc_ar s 2 (zc_up f2 (r ||| c) ((f2 r) + 1))) (zc_st_ar _ _ _ _ _) ?_
                            refine g_iinc (v := nI (r + 1)) (lv' := [(0, .ref (q 0)), (1, .int (nI a)), (2, .int (nI c)), (3, .int (nI 1)), (4, .int (nI (r + 1)))]) hG dX1_chains_137 4 rfl (nI_add _ _) (by decide) [1, 2, 3, 4, 0] rfl ?_
                            refine g_goto (tgt := 72) hG dX1_chains_140 (by decide) ?_
                            exact ih2 (r + 1) _ (by omega) (by omega) (zd_yes hI (by omega) h4 h5 h10 h8 (by omega))
              refine g_iconst (v := nI 1) hG dX1_chains_63 rfl ?_
              refine g_goto (tgt := 68) hG dX1_chains_64 (by decide) ?_
              refine g_istore_n (lv' := [(0, .ref (q 0)), (1, .int (nI a)), (2, .int (nI c)), (3, .int (nI 1))]) hG dX1_chains_68 rfl (by decide) [1, 2, 3, 0] rfl ?_
              refine g_iconst (v := nI 0) hG dX1_chains_69 rfl ?_
              refine g_istore (lv' := [(0, .ref (q 0)), (1, .int (nI a)), (2, .int (nI c)), (3, .int (nI 1)), (4, .int (nI 0))]) hG dX1_chains_70 (by decide) [1, 2, 3, 4, 0] rfl ?_
              exact lp2 (a + 2) 0 f (by omega) (by omega) (zd_0 hS)
    have p1 : ∀ (k : Nat) (i : Nat) (f : Nat → Nat), i ≤ a + 1 → a + 2 ≤ i + k → (∀ j, j < i → f j = if j = 0 then 0 else 100) → G (zc_ar s 2 f) 12 [(0, .ref (q 0)), (1, .int (nI a)), (2, .int (nI i))] [] := by
      intro k
      induction k with
      | zero => intros; omega
      | succ k ih =>
        intro i f hi hk hI
        refine g_iload_n hG dX1_chains_12 rfl 2 rfl ?_
        refine g_iload_n hG dX1_chains_13 rfl 1 rfl ?_
        refine g_n_gt (tgt := 39) hG dX1_chains_14 (by decide) (by omega) (by omega) (fun h3 => ?_) (fun h3 => ?_)
        · have hz := zd_start (n := s 0 0) (un := s 1) (a := a) (f := f) (by have := hI 0 (by omega); simpa using this) (fun j h1 h2 => by have := hI j (by omega); rw [this, if_neg (by omega)])
          refine g_iconst (v := nI 1) hG dX1_chains_39 rfl ?_
          refine g_istore_n (lv' := [(0, .ref (q 0)), (1, .int (nI a)), (2, .int (nI 1))]) hG dX1_chains_40 rfl (by decide) [1, 2, 0] rfl ?_
          exact p2 (a + 1) 1 f (by omega) (by omega) (by omega) hz.1 hz.2
        · refine g_aload_n hG dX1_chains_17 rfl 0 rfl ?_
          refine m_get (s := zc_ar s 2 f) (v := .ref (q 2)) hG 2 (by decide) rfl q185 rfl dX1_chains_18 ?_
          refine g_iload_n hG dX1_chains_21 rfl 2 rfl ?_
          refine g_iload_n hG dX1_chains_22 rfl 2 rfl ?_
          refine g_z_ne (tgt := 30) hG dX1_chains_23 (by decide) (by omega) (fun h4 => ?_) (fun h4 => ?_)
          · refine g_bipush (v := nI 100) hG dX1_chains_30 (by decide) ?_
            refine g_ist (s := zc_ar s 2 f) (f := f) (v := i) (e := 100) hG 2 rfl rfl rfl (by omega) (by decide) dX1_chains_32 ?_
            refine g_eqs (s' := zc_ar s 2 (zc_up f i 100)) (zc_st_ar _ _ _ _ _) ?_
            refine g_iinc (v := nI (i + 1)) (lv' := [(0, .ref (q 0)), (1, .int (nI a)), (2, .int (nI (i + 1)))]) hG dX1_chains_33 2 rfl (nI_add _ _) (by decide) [1, 2, 0] rfl ?_
            refine g_goto (tgt := 12) hG dX1_chains_36 (by decide) ?_
            exact ih (i + 1) (zc_up f i 100) (by omega) (by omega) (zl_up (P := fun j x => x = if j = 0 then 0 else 100) hI (by rw [if_neg h4]))
          · refine g_iconst (v := nI 0) hG dX1_chains_26 rfl ?_
            refine g_goto (tgt := 32) hG dX1_chains_27 (by decide) ?_
            refine g_ist (s := zc_ar s 2 f) (f := f) (v := i) (e := 0) hG 2 rfl rfl rfl (by omega) (by decide) dX1_chains_32 ?_
            refine g_eqs (s' := zc_ar s 2 (zc_up f i 0)) (zc_st_ar _ _ _ _ _) ?_
            refine g_iinc (v := nI (i + 1)) (lv' := [(0, .ref (q 0)), (1, .int (nI a)), (2, .int (nI (i + 1)))]) hG dX1_chains_33 2 rfl (nI_add _ _) (by decide) [1, 2, 0] rfl ?_
            refine g_goto (tgt := 12) hG dX1_chains_36 (by decide) ?_
            exact ih (i + 1) (zc_up f i 0) (by omega) (by omega) (zl_up (P := fun j x => x = if j = 0 then 0 else 100) hI (by rw [if_pos h4]))
    refine g_eqs (s' := zc_ar s 2 (s 2)) (zc_ar_self s 2).symm ?_
    refine g_iconst (v := nI 0) hG dX1_chains_10 rfl ?_
    refine g_istore_n (lv' := [(0, .ref (q 0)), (1, .int (nI a)), (2, .int (nI 0))]) hG dX1_chains_11 rfl (by decide) [1, 2, 0] rfl ?_
    exact p1 (a + 2) 0 (s 2) (by omega) (by omega) (fun _ h => absurd h (Nat.not_lt_zero _))
  · refine g_iconst (v := -1) hG dX1_chains_8 rfl ?_
    exact g_iret hG rfl (rfl) dX1_chains_9 (⟨s 2, (zc_ar_self s 2).symm, Or.inl ⟨h1, rfl⟩⟩)
end
section
/-! counting; the longest chain; turning: plain laws -/
theorem zb_cnt_or {a b : Nat} (h : a &&& b = 0) : ∀ k, zb_cnt (a ||| b) k = zb_cnt a k + zb_cnt b k := by
  intro k
  induction k with
  | zero => rfl
  | succ k ih =>
    rw [zb_cnt, zb_cnt, zb_cnt, ih, Nat.testBit_or]
    have := zb_disj h k
    cases h1 : a.testBit k <;> cases h2 : b.testBit k <;> simp_all <;> omega
theorem zb_cnt_mono {p a : Nat} (h : zp_sub p a) : ∀ k, zb_cnt p k ≤ zb_cnt a k := by
  intro k
  induction k with
  | zero => exact Nat.le_refl _
  | succ k ih =>
    rw [zb_cnt, zb_cnt]
    have := h k
    cases h1 : p.testBit k <;> cases h2 : a.testBit k <;> simp_all
    omega
theorem zb_cnt_split (a c k : Nat) : zb_cnt a k = zb_cnt (a &&& c) k + zb_cnt (zb_dif a c) k := by
  rw [← zb_cnt_or (zb_disj' fun i h1 h2 => ((zb_dif_iff _ _ _).mp h2).2 ((zb_and_iff _ _ _).mp h1).2)]
  congr 1
  apply zb_ext
  intro i
  rw [zb_or_iff, zb_and_iff, zb_dif_iff]
  constructor
  · intro h
    by_cases z : c.testBit i = true
    · exact Or.inl ⟨h, z⟩
    · exact Or.inr ⟨h, z⟩
  · rintro (h | h)
    · exact h.1
    · exact h.1
theorem zb_cnt_pos {a i : Nat} (h : a.testBit i = true) : ∀ k, i < k → 1 ≤ zb_cnt a k := by
  intro k
  induction k with
  | zero => intro hk; omega
  | succ k ih =>
    intro hk
    rw [zb_cnt]
    by_cases e : i = k
    · subst e; rw [h]; simp
    · have := ih (by omega)
      omega
theorem zb_cnt_one {a : Nat} (h : ∀ i j, a.testBit i = true → a.testBit j = true → i = j) : ∀ k, zb_cnt a k ≤ 1 := by
  intro k
  induction k with
  | zero => exact Nat.zero_le _
  | succ k ih =>
    rw [zb_cnt]
    cases hb : a.testBit k
    · simpa using ih
    · have : zb_cnt a k = 0 := by
        apply Classical.byContradiction
        intro hn
        have : ∃ i, i < k ∧ a.testBit i = true := by
          apply Classical.byContradiction
          intro hh
          apply hn
          have : ∀ m, m ≤ k → zb_cnt a m = 0 := by
            intro m
            induction m with
            | zero => intro _; rfl
            | succ m ihm =>
              intro hm
              rw [zb_cnt, ihm (by omega)]
              cases hq : a.testBit m
              · rfl
              · exact absurd ⟨m, by omega, hq⟩ hh
          exact this k (Nat.le_refl _)
        obtain ⟨i, hi, hb2⟩ := this
        have := h i k hb2 hb
        omega
      rw [this]
      simp
theorem zb_cnt_pow {v k : Nat} (h : v < k) : zb_cnt (2 ^ v) k = 1 := by
  have h1 := zb_cnt_pos (a := 2 ^ v) (i := v) ((zb_pw_iff v v).mpr rfl) k h
  have h2 := zb_cnt_one (a := 2 ^ v) (fun i j hi hj => by rw [(zb_pw_iff _ _).mp hi, (zb_pw_iff _ _).mp hj]) k
  omega
theorem zb_cnt_full {n k : Nat} (h : n ≤ k) : zb_cnt (2 ^ n - 1) k = n := by
  have : ∀ m, zb_cnt (2 ^ n - 1) m = min m n := by
    intro m
    induction m with
    | zero => simp [zb_cnt]
    | succ m ih =>
      rw [zb_cnt, ih]
      by_cases e : m < n
      · rw [(zb_full_iff n m).mpr e]
        simp only [Bool.toNat_true]
        omega
      · have : (2 ^ n - 1).testBit m = false := by
          cases hb : (2 ^ n - 1).testBit m
          · rfl
          · exact absurd ((zb_full_iff n m).mp hb) e
        rw [this]
        simp only [Bool.toNat_false]
        omega
  rw [this]
  omega
theorem zb_sub_full {a n : Nat} (h : a < 2 ^ n) : zp_sub a (2 ^ n - 1) := fun i hi => (zb_full_iff n i).mpr (zb_bit_lt h hi)
theorem zb_sub_lt {p a n : Nat} (h : zp_sub p a) (ha : a < 2 ^ n) : p < 2 ^ n := Nat.lt_of_le_of_lt (zp_sub_le h) ha
/-- the largest element of a set -/
theorem zb_top {p : Nat} (h : p ≠ 0) : ∃ j, p.testBit j = true ∧ ∀ i, p.testBit i = true → i ≤ j := by
  have : ∀ m, (∀ i, p.testBit i = true → i < m) → ∃ j, p.testBit j = true ∧ ∀ i, p.testBit i = true → i ≤ j := by
    intro m
    induction m with
    | zero =>
      intro hm
      obtain ⟨i, hi⟩ := zb_ne0 h
      exact absurd (hm i hi) (Nat.not_lt_zero _)
    | succ m ih =>
      intro hm
      by_cases hb : p.testBit m = true
      · exact ⟨m, hb, fun i hi => Nat.lt_succ_iff.mp (hm i hi)⟩
      · exact ih (fun i hi => by
          have := hm i hi
          by_cases e : i = m
          · subst e; exact absurd hi hb
          · omega)
  exact this p (fun i hi => zb_bit_lt (Nat.lt_two_pow_self) hi)
theorem zb_and_pow {m u : Nat} : m &&& 2 ^ u = 0 ↔ ¬ m.testBit u = true := by
  constructor
  · intro h hb
    exact zb_disj h u hb ((zb_pw_iff u u).mpr rfl)
  · intro h
    apply zb_disj'
    intro i h1 h2
    rw [(zb_pw_iff _ _).mp h2] at h1
    exact h h1
/-- a strict order on 0 .. n - 1 that goes upwards -/
def zp_Po (n : Nat) (un : Nat → Nat) : Prop := (∀ v, v < n → un v < 2 ^ v) ∧ ∀ v, v < n → ∀ u, (un v).testBit u = true → ∀ t, (un u).testBit t = true → (un v).testBit t = true
theorem zp_Po.lt {n : Nat} {un : Nat → Nat} (h : zp_Po n un) {u v : Nat} (hv : v < n) (hb : (un v).testBit u = true) : u < v := zb_bit_lt (h.1 v hv) hb
theorem zp_Po.rel {n : Nat} {un : Nat → Nat} (h : zp_Po n un) {u v : Nat} (hv : v < n) (huv : u < v) : zp_rel un u v ↔ (un v).testBit u = true := by
  constructor
  · rintro (q | q)
    · exact q
    · have := h.lt (by omega) q
      omega
  · exact Or.inl
/-- k: how long a chain of a's elements with its top at j can be -/
def zl_T (n : Nat) (un : Nat → Nat) (a j k : Nat) : Prop := (¬ a.testBit j = true → k = 0) ∧ (a.testBit j = true → (∃ p, zp_sub p a ∧ zp_uni n un p True ∧ p.testBit j = true ∧ (∀ i, p.testBit i = true → i ≤ j) ∧ zb_cnt p 10 = k) ∧ ∀ p, zp_sub p a → zp_uni n un p True → p.testBit j = true → (∀ i, p.testBit i = true → i ≤ j) → zb_cnt p 10 ≤ k)
theorem zl_le {n : Nat} {un : Nat → Nat} {a j k : Nat} (h : zl_T n un a j k) : k ≤ 10 := by
  by_cases hb : a.testBit j = true
  · obtain ⟨⟨p, -, -, -, -, e⟩, -⟩ := h.2 hb
    rw [← e]
    exact zb_cnt_le _ _
  · rw [h.1 hb]; exact Nat.zero_le _
theorem zl_step {n : Nat} {un : Nat → Nat} {a z b : Nat} {f : Nat → Nat} (hP : zp_Po n un) (hn : n ≤ 10) (hz : z < n) (ha : a < 2 ^ n) (haz : a.testBit z = true) (hf : ∀ j, j < z → zl_T n un a j (f j))
    (h1 : ∀ u, u < z → (un z).testBit u = true → a.testBit u = true → f u ≤ b) (h2 : b = 0 ∨ ∃ u, u < z ∧ (un z).testBit u = true ∧ a.testBit u = true ∧ f u = b) : zl_T n un a z (1 + b) := by
  refine ⟨fun h => absurd haz h, fun _ => ⟨?_, ?_⟩⟩
  · have hz1 : zb_cnt (2 ^ z) 10 = 1 := zb_cnt_pow (by omega)
    rcases h2 with rfl | ⟨u, q1, q2, q3, q4⟩
    · refine ⟨2 ^ z, fun i hi => by rw [(zb_pw_iff _ _).mp hi]; exact haz, fun v _ u hu hb1 hb2 => ?_, (zb_pw_iff z z).mpr rfl, fun i hi => by rw [(zb_pw_iff _ _).mp hi]; exact Nat.le_refl _, by omega⟩
      rw [zb_pw_iff] at hb1 hb2
      omega
    · obtain ⟨⟨p, r1, r2, r3, r4, r5⟩, -⟩ := (hf u q1).2 q3
      have hd : p &&& 2 ^ z = 0 := zb_and_pow.mpr (fun hb => by have := r4 z hb; omega)
      refine ⟨p ||| 2 ^ z, fun i hi => ?_, fun v hv w hw hb1 hb2 => ?_, (zb_or_iff _ _ _).mpr (Or.inr ((zb_pw_iff z z).mpr rfl)), fun i hi => ?_, ?_⟩
      · rcases (zb_or_iff _ _ _).mp hi with q | q
        · exact r1 i q
        · rw [(zb_pw_iff _ _).mp q]; exact haz
      · refine ⟨fun _ => trivial, fun _ => ?_⟩
        rw [zb_or_iff, zb_pw_iff] at hb1 hb2
        rcases hb2 with q | rfl
        · rcases hb1 with q' | rfl
          · exact (r2 v hv w hw q' q).mpr trivial
          · have := r4 v q
            omega
        · rcases hb1 with q' | rfl
          · left
            have hw2 := r4 w q'
            by_cases e : w = u
            · subst e; exact q2
            · have g := (r2 u (by omega) w (by omega) q' r3).mpr trivial
              rw [hP.rel (by omega) (by omega)] at g
              exact hP.2 v hv u q2 w g
          · omega
      · rw [zb_or_iff, zb_pw_iff] at hi
        rcases hi with q | rfl
        · have := r4 i q
          omega
        · exact Nat.le_refl _
      · rw [zb_cnt_or hd, r5, hz1]
        omega
  · intro p g1 g2 g3 g4
    have hs := zb_cnt_split p (2 ^ z) 10
    have hz1 : zb_cnt (p &&& 2 ^ z) 10 ≤ 1 := zb_cnt_one (fun i j hi hj => by rw [(zb_pw_iff _ _).mp ((zb_and_iff _ _ _).mp hi).2, (zb_pw_iff _ _).mp ((zb_and_iff _ _ _).mp hj).2]) 10
    by_cases e : zb_dif p (2 ^ z) = 0
    · rw [e, zb_cnt_0] at hs
      omega
    · obtain ⟨u, k1, k2⟩ := zb_top e
      rw [zb_dif_iff, zb_pw_iff] at k1
      have hu : u < z := by
        have := g4 u k1.1
        omega
      have huz : (un z).testBit u = true := (hP.rel hz hu).mp ((g2 z hz u hu k1.1 g3).mpr trivial)
      have hua := g1 u k1.1
      have := ((hf u hu).2 hua).2 (zb_dif p (2 ^ z)) (fun i hi => g1 i ((zb_dif_iff _ _ _).mp hi).1) (fun v hv w hw b1 b2 => g2 v hv w hw ((zb_dif_iff _ _ _).mp b1).1 ((zb_dif_iff _ _ _).mp b2).1) ((zb_dif_iff _ _ _).mpr ⟨k1.1, by rw [zb_pw_iff]; exact k1.2⟩) k2
      have := h1 u hu huz hua
      omega
theorem zl_end {n : Nat} {un : Nat → Nat} {a b : Nat} {f : Nat → Nat} (ha : a < 2 ^ n) (hf : ∀ j, j < n → zl_T n un a j (f j)) (h1 : ∀ j, j < n → f j ≤ b) (h2 : b = 0 ∨ ∃ j, j < n ∧ a.testBit j = true ∧ f j = b) : zp_Mx n un a True b := by
  constructor
  · rcases h2 with rfl | ⟨j, q1, q2, q3⟩
    · exact ⟨0, zp_sub_0 a, zp_uni_0 _ _ _, zb_cnt_0 _⟩
    · obtain ⟨⟨p, r1, r2, r3, r4, r5⟩, -⟩ := (hf j q1).2 q2
      exact ⟨p, r1, r2, by omega⟩
  · intro p g1 g2
    by_cases e : p = 0
    · subst e; rw [zb_cnt_0]; exact Nat.zero_le _
    · obtain ⟨j, k1, k2⟩ := zb_top e
      have hj := zb_bit_lt ha (g1 j k1)
      have := ((hf j hj).2 (g1 j k1)).2 p g1 g2 k1 k2
      have := h1 j hj
      omega
def zp_rev (n a : Nat) : Nat := zb_mk (fun c => a.testBit (n - 1 - c)) n
theorem zp_rev_bit (n a i : Nat) : (zp_rev n a).testBit i = true ↔ i < n ∧ a.testBit (n - 1 - i) = true := by
  rw [zp_rev, zb_mk_bit, Bool.and_eq_true, decide_eq_true_iff]
theorem zp_tr_bit (n : Nat) (un : Nat → Nat) (b i : Nat) : (zp_tr n un b).testBit i = true ↔ i < n ∧ (un (n - 1 - i)).testBit (n - 1 - b) = true := by
  rw [zp_tr, zb_mk_bit, Bool.and_eq_true, decide_eq_true_iff]
def zr_I (n a i t : Nat) : Prop := ∀ c, t.testBit c = true ↔ ∃ u, u < i ∧ a.testBit u = true ∧ c = n - 1 - u
theorem zr_I0 (n a : Nat) : zr_I n a 0 0 := by
  intro c
  rw [zb_0_iff]
  exact ⟨False.elim, fun ⟨u, h, _⟩ => absurd h (Nat.not_lt_zero _)⟩
theorem zr_no {n a i t : Nat} (h : zr_I n a i t) (hb : ¬ a.testBit i = true) : zr_I n a (i + 1) t := by
  intro c
  rw [h c]
  constructor
  · rintro ⟨u, h1, h2⟩
    exact ⟨u, by omega, h2⟩
  · rintro ⟨u, h1, h2, h3⟩
    by_cases e : u = i
    · subst e; exact absurd h2 hb
    · exact ⟨u, by omega, h2, h3⟩
theorem zr_yes {n a i t : Nat} (h : zr_I n a i t) (hb : a.testBit i = true) : zr_I n a (i + 1) (t ||| 2 ^ (n - 1 - i)) := by
  intro c
  rw [zb_or_iff, zb_pw_iff, h c]
  constructor
  · rintro (⟨u, h1, h2⟩ | rfl)
    · exact ⟨u, by omega, h2⟩
    · exact ⟨i, by omega, hb, rfl⟩
  · rintro ⟨u, h1, h2, h3⟩
    by_cases e : u = i
    · subst e; exact Or.inr h3
    · exact Or.inl ⟨u, by omega, h2, h3⟩
theorem zr_end {n a t : Nat} (h : zr_I n a n t) : t = zp_rev n a := by
  apply zb_ext
  intro c
  rw [h c, zp_rev_bit]
  constructor
  · rintro ⟨u, h1, h2, rfl⟩
    refine ⟨by omega, ?_⟩
    rw [show n - 1 - (n - 1 - u) = u by omega]
    exact h2
  · rintro ⟨h1, h2⟩
    exact ⟨n - 1 - c, by omega, h2, by omega⟩
def zx_mix (n : Nat) (a b : Nat → Nat) : Nat → Nat := fun j => if j < n then a j else b j
theorem zx_mix_0 (a b : Nat → Nat) : b = zx_mix 0 a b := by
  funext j
  simp [zx_mix]
theorem zx_mix_s (n : Nat) (a b : Nat → Nat) : zc_up (zx_mix n a b) n (a n) = zx_mix (n + 1) a b := by
  funext j
  by_cases e : j = n
  · subst e; simp [zx_mix, zc_up]
  · by_cases h : j < n
    · simp [zx_mix, zc_up, e, h, show j < n + 1 by omega]
    · simp [zx_mix, zc_up, e, h, show ¬ j < n + 1 by omega]
theorem zx_mix_lt {n j : Nat} {a b : Nat → Nat} (h : j < n) : zx_mix n a b j = a j := if_pos h
theorem zx_mix_ge {n j : Nat} {a b : Nat → Nat} (h : ¬ j < n) : zx_mix n a b j = b j := if_neg h
def zx_ok (s : zS) : Prop := s 0 0 ≤ 10 ∧ ∀ j, j < s 0 0 → s 1 j < 1024 ∧ s 2 j < 1024
end
section
set_option maxRecDepth 100000
set_option maxHeartbeats 4000000 in
/-- isSet(x) -/
theorem mX_isSet (l : Launch) (s : zS) (x : Int32) (hn : s 0 0 ≤ 10) : zc_M l zc_XL yX0_isSet cX0_isSet 2 0 0 (some .boolean) [.int x] s (fun v s' => v = some (.int (pB (zp_is (s 0 0) x))) ∧ s = s') := by
  refine zc_M.of (own := RX0) rfl rfl (fun _ => Nat.le_of_ble_eq_true rfl) ?_
  intro q ca G hG
  show G s 0 [(0, .ref (q 0)), (1, .int x)] []
  refine g_iload_n hG dX0_isSet_0 rfl 1 rfl ?_
  refine g_if_lt (tgt := 18) hG dX0_isSet_1 (by decide) (fun h => ?_) (fun h => ?_)
  · refine g_iconst (v := nI 0) hG dX0_isSet_18 rfl ?_
    exact g_iret hG rfl (rfl) dX0_isSet_19 (⟨zr_0 (fun z => ((zp_is_iff (by omega) x).mp z).1 h), rfl⟩)
  · refine g_iload_n hG dX0_isSet_4 rfl 1 rfl ?_
    refine g_iconst (v := nI 1) hG dX0_isSet_5 rfl ?_
    refine g_aload_n hG dX0_isSet_6 rfl 0 rfl ?_
    refine x_get (s := s) (v := .int (nI (s 0 0))) hG 0 (by decide) rfl q36 rfl dX0_isSet_7 ?_
    refine g_ishl (z := nI (2 ^ (s 0 0))) hG dX0_isSet_10 (nx_shl1 (s 0 0) (by omega)) ?_
    refine g_icmp_ge (tgt := 18) hG dX0_isSet_11 (by decide) (fun h2 => ?_) (fun h2 => ?_)
    · refine g_iconst (v := nI 0) hG dX0_isSet_18 rfl ?_
      exact g_iret hG rfl (rfl) dX0_isSet_19 (⟨zr_0 (fun z => ((zp_is_iff (by omega) x).mp z).2 h2), rfl⟩)
    · refine g_iconst (v := nI 1) hG dX0_isSet_14 rfl ?_
      refine g_goto (tgt := 19) hG dX0_isSet_15 (by decide) ?_
      exact g_iret hG rfl (rfl) dX0_isSet_19 (⟨zr_1 ((zp_is_iff (by omega) x).mpr ⟨h, h2⟩), rfl⟩)
set_option maxHeartbeats 4000000 in
/-- isElement(x) -/
theorem mX_isElement (l : Launch) (s : zS) (x : Int32) (hn : s 0 0 ≤ 10) : zc_M l zc_XL yX0_isElement cX0_isElement 2 0 0 (some .boolean) [.int x] s (fun v s' => v = some (.int (pB (∃ u, u < s 0 0 ∧ x = nI u))) ∧ s = s') := by
  refine zc_M.of (own := RX0) rfl rfl (fun _ => Nat.le_of_ble_eq_true rfl) ?_
  intro q ca G hG
  show G s 0 [(0, .ref (q 0)), (1, .int x)] []
  refine g_iload_n hG dX0_isElement_0 rfl 1 rfl ?_
  refine g_if_lt (tgt := 16) hG dX0_isElement_1 (by decide) (fun h => ?_) (fun h => ?_)
  · refine g_iconst (v := nI 0) hG dX0_isElement_16 rfl ?_
    exact g_iret hG rfl (rfl) dX0_isElement_17 (⟨zr_0 (fun ⟨u, h1, e⟩ => by rw [e] at h; exact nI_pos (by omega) h), rfl⟩)
  · refine g_iload_n hG dX0_isElement_4 rfl 1 rfl ?_
    refine g_aload_n hG dX0_isElement_5 rfl 0 rfl ?_
    refine x_get (s := s) (v := .int (nI (s 0 0))) hG 0 (by decide) rfl q36 rfl dX0_isElement_6 ?_
    refine g_icmp_ge (tgt := 16) hG dX0_isElement_9 (by decide) (fun h2 => ?_) (fun h2 => ?_)
    · refine g_iconst (v := nI 0) hG dX0_isElement_16 rfl ?_
      exact g_iret hG rfl (rfl) dX0_isElement_17 (⟨zr_0 (fun ⟨u, h1, e⟩ => by rw [e, nI_leI (by omega) (by omega)] at h2; omega), rfl⟩)
    · obtain ⟨u, hu, rfl⟩ := nI_of h
      refine g_iconst (v := nI 1) hG dX0_isElement_12 rfl ?_
      refine g_goto (tgt := 17) hG dX0_isElement_13 (by decide) ?_
      exact g_iret hG rfl (rfl) dX0_isElement_17 (⟨zr_1 ⟨u, by rw [nI_leI (by omega) hu] at h2; omega, rfl⟩, rfl⟩)
set_option maxHeartbeats 4000000 in
/-- size() -/
theorem mX_size (l : Launch) (s : zS) : zc_M l zc_XL yX0_size cX0_size 1 0 0 (some .int) [] s (fun v s' => v = some (.int (nI (s 0 0))) ∧ s = s') := by
  refine zc_M.of (own := RX0) rfl rfl (fun _ => Nat.le_of_ble_eq_true rfl) ?_
  intro q ca G hG
  show G s 0 [(0, .ref (q 0))] []
  refine g_aload_n hG dX0_size_0 rfl 0 rfl ?_
  refine x_get (s := s) (v := .int (nI (s 0 0))) hG 0 (by decide) rfl q36 rfl dX0_size_1 ?_
  exact g_iret hG rfl (rfl) dX0_size_4 (⟨rfl, rfl⟩)
set_option maxHeartbeats 4000000 in
/-- below(x, y) -/
theorem mX_below (l : Launch) (s : zS) (x y : Int32) (hm : zx_ok s) : zc_M l zc_XL yX0_below cX0_below 3 1 21 (some .boolean) [.int x, .int y] s (fun v s' => v = some (.int (pB (zp_bel (s 0 0) (s 1) x y))) ∧ s = s') := by
  refine zc_M.of (own := RX0) rfl rfl (fun _ => Nat.le_of_ble_eq_true rfl) ?_
  intro q ca G hG
  show G s 0 [(0, .ref (q 0)), (1, .int x), (2, .int y)] []
  obtain ⟨hn, hu⟩ := hm
  refine g_aload_n hG dX0_below_0 rfl 0 rfl ?_
  refine g_iload_n hG dX0_below_1 rfl 1 rfl ?_
  refine g_call hG (mX_isElement l s x hn) 1 q124 q126 qs8 q26 q127 (by decide +kernel) rfl ⟨by decide, by decide⟩ (ci := 0) rfl rfl rfl [] rfl (by simp [Value.category]) dX0_below_2 ?_
  rintro _ _ ⟨rfl, rfl⟩
  show G s 5 [(0, .ref (q 0)), (1, .int x), (2, .int y)] [.int (pB (∃ u, u < s 0 0 ∧ x = nI u))]
  refine g_b_eq (tgt := 33) hG dX0_below_5 (by decide) (fun h1 => ?_) (fun h1 => ?_)
  · refine g_iconst (v := nI 0) hG dX0_below_33 rfl ?_
    exact g_iret hG rfl (rfl) dX0_below_34 (⟨zr_0 (fun ⟨u2, v2, e1, e2, e3, e4, e5⟩ => h1 ⟨u2, e1, e3⟩), rfl⟩)
  · obtain ⟨u, hun, rfl⟩ := h1
    refine g_aload_n hG dX0_below_8 rfl 0 rfl ?_
    refine g_iload_n hG dX0_below_9 rfl 2 rfl ?_
    refine g_call hG (mX_isElement l s y hn) 1 q124 q126 qs8 q26 q127 (by decide +kernel) rfl ⟨by decide, by decide⟩ (ci := 0) rfl rfl rfl [] rfl (by simp [Value.category]) dX0_below_10 ?_
    rintro _ _ ⟨rfl, rfl⟩
    show G s 13 [(0, .ref (q 0)), (1, .int (nI u)), (2, .int y)] [.int (pB (∃ u, u < s 0 0 ∧ y = nI u))]
    refine g_b_eq (tgt := 33) hG dX0_below_13 (by decide) (fun h2 => ?_) (fun h2 => ?_)
    · refine g_iconst (v := nI 0) hG dX0_below_33 rfl ?_
      exact g_iret hG rfl (rfl) dX0_below_34 (⟨zr_0 (fun ⟨u2, v2, e1, e2, e3, e4, e5⟩ => h2 ⟨v2, e2, e4⟩), rfl⟩)
    · obtain ⟨z, hzn, rfl⟩ := h2
      have hz8 := (hu z hzn).1
      refine g_aload_n hG dX0_below_16 rfl 0 rfl ?_
      refine x_get (s := s) (v := .ref (q 1)) hG 1 (by decide) rfl q37 rfl dX0_below_17 ?_
      refine g_iload_n hG dX0_below_20 rfl 2 rfl ?_
      refine g_ild (s := s) (f := s 1) (v := z) hG 1 rfl rfl (by omega) (by decide) dX0_below_21 ?_
      refine g_iload_n hG dX0_below_22 rfl 1 rfl ?_
      refine g_ishr (z := nI ((s 1 z) >>> u)) hG dX0_below_23 (nx_shr (by omega) (by omega)) ?_
      refine g_iconst (v := nI 1) hG dX0_below_24 rfl ?_
      refine g_iand (z := pB ((s 1 z).testBit u = true)) hG dX0_below_25 (nx_tb _ _) ?_
      refine g_b_eq (tgt := 33) hG dX0_below_26 (by decide) (fun h5 => ?_) (fun h5 => ?_)
      · refine g_iconst (v := nI 0) hG dX0_below_33 rfl ?_
        exact g_iret hG rfl (rfl) dX0_below_34 (⟨zr_0 (fun ⟨u2, v2, e1, e2, e3, e4, e5⟩ => h5 (by rw [(nI_eq (by omega) (by omega)).mp e3, (nI_eq (by omega) (by omega)).mp e4]; exact e5)), rfl⟩)
      · refine g_iconst (v := nI 1) hG dX0_below_29 rfl ?_
        refine g_goto (tgt := 34) hG dX0_below_30 (by decide) ?_
        exact g_iret hG rfl (rfl) dX0_below_34 (⟨zr_1 ⟨u, z, hun, hzn, rfl, rfl, h5⟩, rfl⟩)
set_option maxHeartbeats 4000000 in
/-- bitsIn(a) -/
theorem mX_bitsIn (l : Launch) (s : zS) (a : Nat) (ha : a < 2 ^ 31) : zc_M l zc_XL yX0_bitsIn cX0_bitsIn 4 0 0 (some .int) [.int (nI a)] s (fun v s' => v = some (.int (nI (zb_cnt a 10))) ∧ s = s') := by
  refine zc_M.of (own := RX0) rfl rfl (fun _ => Nat.le_of_ble_eq_true rfl) ?_
  intro q ca G hG
  show G s 0 [(0, .ref (q 0)), (1, .int (nI a))] []
  have lp : ∀ (k : Nat) (i c : Nat), i ≤ 10 → 11 ≤ i + k → c = zb_cnt a i → G s 4 [(0, .ref (q 0)), (1, .int (nI a)), (2, .int (nI c)), (3, .int (nI i))] [] := by
    intro k
    induction k with
    | zero => intros; omega
    | succ k ih =>
      intro i c hi hk hc
      refine g_iload_n hG dX0_bitsIn_4 rfl 3 rfl ?_
      refine g_bipush (v := nI 10) hG dX0_bitsIn_5 (by decide) ?_
      refine g_n_ge (tgt := 24) hG dX0_bitsIn_7 (by decide) (by omega) (by omega) (fun h1 => ?_) (fun h1 => ?_)
      · refine g_iload_n hG dX0_bitsIn_24 rfl 2 rfl ?_
        exact g_iret hG rfl (rfl) dX0_bitsIn_25 (⟨by rw [hc, show i = 10 by omega], rfl⟩)
      · refine g_iload_n hG dX0_bitsIn_10 rfl 2 rfl ?_
        refine g_iload_n hG dX0_bitsIn_11 rfl 1 rfl ?_
        refine g_iload_n hG dX0_bitsIn_12 rfl 3 rfl ?_
        refine g_ishr (z := nI (a >>> i)) hG dX0_bitsIn_13 (nx_shr (by omega) (by omega)) ?_
        refine g_iconst (v := nI 1) hG dX0_bitsIn_14 rfl ?_
        refine g_iand (z := pB (a.testBit i = true)) hG dX0_bitsIn_15 (nx_tb _ _) ?_
        refine g_iadd (z := nI (c + (a.testBit i).toNat)) hG dX0_bitsIn_16 (nx_addb _ _) ?_
        refine g_istore_n (lv' := [(0, .ref (q 0)), (1, .int (nI a)), (2, .int (nI (c + (a.testBit i).toNat))), (3, .int (nI i))]) hG dX0_bitsIn_17 rfl (by decide) [1, 2, 0, 3] rfl ?_
        refine g_iinc (v := nI (i + 1)) (lv' := [(0, .ref (q 0)), (1, .int (nI a)), (2, .int (nI (c + (a.testBit i).toNat))), (3, .int (nI (i + 1)))]) hG dX0_bitsIn_18 3 rfl (nI_add _ _) (by decide) [1, 2, 3, 0] rfl ?_
        refine g_goto (tgt := 4) hG dX0_bitsIn_21 (by decide) ?_
        exact ih (i + 1) _ (by omega) (by omega) (by rw [hc]; rfl)
  refine g_iconst (v := nI 0) hG dX0_bitsIn_0 rfl ?_
  refine g_istore_n (lv' := [(0, .ref (q 0)), (1, .int (nI a)), (2, .int (nI 0))]) hG dX0_bitsIn_1 rfl (by decide) [1, 2, 0] rfl ?_
  refine g_iconst (v := nI 0) hG dX0_bitsIn_2 rfl ?_
  refine g_istore_n (lv' := [(0, .ref (q 0)), (1, .int (nI a)), (2, .int (nI 0)), (3, .int (nI 0))]) hG dX0_bitsIn_3 rfl (by decide) [1, 2, 3, 0] rfl ?_
  exact lp 11 0 0 (by omega) (by omega) rfl
set_option maxHeartbeats 4000000 in
/-- reversed(a, n) -/
theorem mX_reversed (l : Launch) (s : zS) (a n : Nat) (ha : a < 2 ^ 31) (hn : n ≤ 10) : zc_M l zc_XL yX0_reversed cX0_reversed 5 0 0 (some .int) [.int (nI a), .int (nI n)] s (fun v s' => v = some (.int (nI (zp_rev n a))) ∧ s = s') := by
  refine zc_M.of (own := RX0) rfl rfl (fun _ => Nat.le_of_ble_eq_true rfl) ?_
  intro q ca G hG
  show G s 0 [(0, .ref (q 0)), (1, .int (nI a)), (2, .int (nI n))] []
  have lp : ∀ (k : Nat) (i t : Nat), i ≤ n → n + 1 ≤ i + k → zr_I n a i t → G s 5 [(0, .ref (q 0)), (1, .int (nI a)), (2, .int (nI n)), (3, .int (nI t)), (4, .int (nI i))] [] := by
    intro k
    induction k with
    | zero => intros; omega
    | succ k ih =>
      intro i t hi hk ht
      refine g_iload hG dX0_reversed_5 4 rfl ?_
      refine g_iload_n hG dX0_reversed_7 rfl 2 rfl ?_
      refine g_n_ge (tgt := 37) hG dX0_reversed_8 (by decide) (by omega) (by omega) (fun h1 => ?_) (fun h1 => ?_)
      · obtain rfl : i = n := by omega
        refine g_iload_n hG dX0_reversed_37 rfl 3 rfl ?_
        exact g_iret hG rfl (rfl) dX0_reversed_38 (⟨by rw [zr_end ht], rfl⟩)
      · refine g_iload_n hG dX0_reversed_11 rfl 1 rfl ?_
        refine g_iload hG dX0_reversed_12 4 rfl ?_
        refine g_ishr (z := nI (a >>> i)) hG dX0_reversed_14 (nx_shr (by omega) (by omega)) ?_
        refine g_iconst (v := nI 1) hG dX0_reversed_15 rfl ?_
        refine g_iand (z := pB (a.testBit i = true)) hG dX0_reversed_16 (nx_tb _ _) ?_
        refine g_b_eq (tgt := 31) hG dX0_reversed_17 (by decide) (fun h2 => ?_) (fun h2 => ?_)
        · refine g_iinc (v := nI (i + 1)) (lv' := [(0, .ref (q 0)), (1, .int (nI a)), (2, .int (nI n)), (3, .int (nI t)), (4, .int (nI (i + 1)))]) hG dX0_reversed_31 4 rfl (nI_add _ _) (by decide) [1, 2, 3, 4, 0] rfl ?_
          refine g_goto (tgt := 5) hG dX0_reversed_34 (by decide) ?_
          exact ih (i + 1) t (by omega) (by omega) (zr_no ht h2)
        · refine g_iload_n hG dX0_reversed_20 rfl 3 rfl ?_
          refine g_iconst (v := nI 1) hG dX0_reversed_21 rfl ?_
          refine g_iload_n hG dX0_reversed_22 rfl 2 rfl ?_
          refine g_iconst (v := nI 1) hG dX0_reversed_23 rfl ?_
          refine g_isub (z := nI (n - 1)) hG dX0_reversed_24 (pk_sub (by omega)) ?_
          refine g_iload hG dX0_reversed_25 4 rfl ?_
          refine g_isub (z := nI ((n - 1) - i)) hG dX0_reversed_27 (pk_sub (by omega)) ?_
          refine g_ishl (z := nI (2 ^ ((n - 1) - i))) hG dX0_reversed_28 (nx_shl1 ((n - 1) - i) (by omega)) ?_
          refine g_ior (z := nI (t ||| (2 ^ ((n - 1) - i)))) hG dX0_reversed_29 (nx_or _ _) ?_
          refine g_istore_n (lv' := [(0, .ref (q 0)), (1, .int (nI a)), (2, .int (nI n)), (3, .int (nI (t ||| (2 ^ ((n - 1) - i))))), (4, .int (nI i))]) hG dX0_reversed_30 rfl (by decide) [1, 2, 3, 0, 4] rfl ?_
          refine g_iinc (v := nI (i + 1)) (lv' := [(0, .ref (q 0)), (1, .int (nI a)), (2, .int (nI n)), (3, .int (nI (t ||| (2 ^ ((n - 1) - i))))), (4, .int (nI (i + 1)))]) hG dX0_reversed_31 4 rfl (nI_add _ _) (by decide) [1, 2, 3, 4, 0] rfl ?_
          refine g_goto (tgt := 5) hG dX0_reversed_34 (by decide) ?_
          exact ih (i + 1) _ (by omega) (by omega) (zr_yes ht h2)
  refine g_iconst (v := nI 0) hG dX0_reversed_0 rfl ?_
  refine g_istore_n (lv' := [(0, .ref (q 0)), (1, .int (nI a)), (2, .int (nI n)), (3, .int (nI 0))]) hG dX0_reversed_1 rfl (by decide) [1, 2, 3, 0] rfl ?_
  refine g_iconst (v := nI 0) hG dX0_reversed_2 rfl ?_
  refine g_istore (lv' := [(0, .ref (q 0)), (1, .int (nI a)), (2, .int (nI n)), (3, .int (nI 0)), (4, .int (nI 0))]) hG dX0_reversed_3 (by decide) [1, 2, 3, 4, 0] rfl ?_
  exact lp (n + 1) 0 0 (by omega) (by omega) (zr_I0 n a)
set_option maxHeartbeats 4000000 in
/-- exchangeSets(a, b) -/
theorem mX_exchangeSets (l : Launch) (s : zS) (f g : Nat → Nat) (a b : Nat) (ha : a < 10) (hb : b < 10) : zc_M l zc_XL yX0_exchangeSets cX0_exchangeSets 4 0 0 none [.int (nI a), .int (nI b)] (zc_ar (zc_ar s 1 f) 2 g) (fun v s' => v = none ∧ s' = zc_ar (zc_ar s 1 (zc_up (zc_up f a (f b)) b (f a))) 2 (zc_up (zc_up g a (g b)) b (g a))) := by
  refine zc_M.of (own := RX0) rfl rfl (fun _ => Nat.le_of_ble_eq_true rfl) ?_
  intro q ca G hG
  show G (zc_ar (zc_ar s 1 f) 2 g) 0 [(0, .ref (q 0)), (1, .int (nI a)), (2, .int (nI b))] []
  refine g_aload_n hG dX0_exchangeSets_0 rfl 0 rfl ?_
  refine x_get (s := zc_ar (zc_ar s 1 f) 2 g) (v := .ref (q 1)) hG 1 (by decide) rfl q37 rfl dX0_exchangeSets_1 ?_
  refine g_iload_n hG dX0_exchangeSets_4 rfl 1 rfl ?_
  refine g_ild (s := zc_ar (zc_ar s 1 f) 2 g) (f := f) (v := a) hG 1 rfl rfl (by omega) (by decide) dX0_exchangeSets_5 ?_
  refine g_istore_n (lv' := [(0, .ref (q 0)), (1, .int (nI a)), (2, .int (nI b)), (3, .int (nI (f a)))]) hG dX0_exchangeSets_6 rfl (by decide) [1, 2, 3, 0] rfl ?_
  refine g_aload_n hG dX0_exchangeSets_7 rfl 0 rfl ?_
  refine x_get (s := zc_ar (zc_ar s 1 f) 2 g) (v := .ref (q 1)) hG 1 (by decide) rfl q37 rfl dX0_exchangeSets_8 ?_
  refine g_iload_n hG dX0_exchangeSets_11 rfl 1 rfl ?_
  refine g_aload_n hG dX0_exchangeSets_12 rfl 0 rfl ?_
  refine x_get (s := zc_ar (zc_ar s 1 f) 2 g) (v := .ref (q 1)) hG 1 (by decide) rfl q37 rfl dX0_exchangeSets_13 ?_
  refine g_iload_n hG dX0_exchangeSets_16 rfl 2 rfl ?_
  refine g_ild (s := zc_ar (zc_ar s 1 f) 2 g) (f := f) (v := b) hG 1 rfl rfl (by omega) (by decide) dX0_exchangeSets_17 ?_
  refine g_ist (s := zc_ar (zc_ar s 1 f) 2 g) (f := f) (v := a) (e := f b) hG 1 rfl rfl rfl (by omega) (by decide) dX0_exchangeSets_18 ?_
  refine g_eqs (s' := zc_ar (zc_ar s 1 (zc_up f a (f b))) 2 g) ((zc_st_arC (by decide) _ _ _ _).trans (congrArg (fun zz_ => zc_ar zz_ 2 g) (zc_st_ar _ _ _ _ _))) ?_
  refine g_aload_n hG dX0_exchangeSets_19 rfl 0 rfl ?_
  refine x_get (s := zc_ar (zc_ar s 1 (zc_up f a (f b))) 2 g) (v := .ref (q 1)) hG 1 (by decide) rfl q37 rfl dX0_exchangeSets_20 ?_
  refine g_iload_n hG dX0_exchangeSets_23 rfl 2 rfl ?_
  refine g_iload_n hG dX0_exchangeSets_24 rfl 3 rfl ?_
  refine g_ist (s := zc_ar (zc_ar s 1 (zc_up f a (f b))) 2 g) (f := zc_up f a (f b)) (v := b) (e := f a) hG 1 rfl rfl rfl (by omega) (by decide) dX0_exchangeSets_25 ?_
  refine g_eqs (s' := zc_ar (zc_ar s 1 (zc_up (zc_up f a (f b)) b (f a))) 2 g) ((zc_st_arC (by decide) _ _ _ _).trans (congrArg (fun zz_ => zc_ar zz_ 2 g) (zc_st_ar _ _ _ _ _))) ?_
  refine g_aload_n hG dX0_exchangeSets_26 rfl 0 rfl ?_
  refine x_get (s := zc_ar (zc_ar s 1 (zc_up (zc_up f a (f b)) b (f a))) 2 g) (v := .ref (q 2)) hG 2 (by decide) rfl q38 rfl dX0_exchangeSets_27 ?_
  refine g_iload_n hG dX0_exchangeSets_30 rfl 1 rfl ?_
  refine g_ild (s := zc_ar (zc_ar s 1 (zc_up (zc_up f a (f b)) b (f a))) 2 g) (f := g) (v := a) hG 2 rfl rfl (by omega) (by decide) dX0_exchangeSets_31 ?_
  refine g_istore_n (lv' := [(0, .ref (q 0)), (1, .int (nI a)), (2, .int (nI b)), (3, .int (nI (g a)))]) hG dX0_exchangeSets_32 rfl (by decide) [1, 2, 3, 0] rfl ?_
  refine g_aload_n hG dX0_exchangeSets_33 rfl 0 rfl ?_
  refine x_get (s := zc_ar (zc_ar s 1 (zc_up (zc_up f a (f b)) b (f a))) 2 g) (v := .ref (q 2)) hG 2 (by decide) rfl q38 rfl dX0_exchangeSets_34 ?_
  refine g_iload_n hG dX0_exchangeSets_37 rfl 1 rfl ?_
  refine g_aload_n hG dX0_exchangeSets_38 rfl 0 rfl ?_
  refine x_get (s := zc_ar (zc_ar s 1 (zc_up (zc_up f a (f b)) b (f a))) 2 g) (v := .ref (q 2)) hG 2 (by decide) rfl q38 rfl dX0_exchangeSets_39 ?_
  refine g_iload_n hG dX0_exchangeSets_42 rfl 2 rfl ?_
  refine g_ild (s := zc_ar (zc_ar s 1 (zc_up (zc_up f a (f b)) b (f a))) 2 g) (f := g) (v := b) hG 2 rfl rfl (by omega) (by decide) dX0_exchangeSets_43 ?_
  refine g_ist (s := zc_ar (zc_ar s 1 (zc_up (zc_up f a (f b)) b (f a))) 2 g) (f := g) (v := a) (e := g b) hG 2 rfl rfl rfl (by omega) (by decide) dX0_exchangeSets_44 ?_
  refine g_eqs (s' := zc_ar (zc_ar s 1 (zc_up (zc_up f a (f b)) b (f a))) 2 (zc_up g a (g b))) (zc_st_ar _ _ _ _ _) ?_
  refine g_aload_n hG dX0_exchangeSets_45 rfl 0 rfl ?_
  refine x_get (s := zc_ar (zc_ar s 1 (zc_up (zc_up f a (f b)) b (f a))) 2 (zc_up g a (g b))) (v := .ref (q 2)) hG 2 (by decide) rfl q38 rfl dX0_exchangeSets_46 ?_
  refine g_iload_n hG dX0_exchangeSets_49 rfl 2 rfl ?_
  refine g_iload_n hG dX0_exchangeSets_50 rfl 3 rfl ?_
  refine g_ist (s := zc_ar (zc_ar s 1 (zc_up (zc_up f a (f b)) b (f a))) 2 (zc_up g a (g b))) (f := zc_up g a (g b)) (v := b) (e := g a) hG 2 rfl rfl rfl (by omega) (by decide) dX0_exchangeSets_51 ?_
  refine g_eqs (s' := zc_ar (zc_ar s 1 (zc_up (zc_up f a (f b)) b (f a))) 2 (zc_up (zc_up g a (g b)) b (g a))) (zc_st_ar _ _ _ _ _) ?_
  exact g_vret hG rfl dX0_exchangeSets_52 (⟨rfl, rfl⟩)
def zt_sw (n v : Nat) (a f : Nat → Nat) : Prop := (∀ j, j < n → f j = if j < v ∨ n - 1 - j < v then a (n - 1 - j) else a j) ∧ ∀ j, n ≤ j → f j = a j
theorem zt_sw0 (n : Nat) (a : Nat → Nat) : zt_sw n 0 a a := by
  refine ⟨fun j hj => ?_, fun _ _ => rfl⟩
  rw [if_neg (by omega)]
theorem zt_sws {n v : Nat} {a f : Nat → Nat} (h : zt_sw n v a f) (hv : v < n - 1 - v) : zt_sw n (v + 1) a (zc_up (zc_up f v (f (n - 1 - v))) (n - 1 - v) (f v)) := by
  obtain ⟨h, h'⟩ := h
  refine ⟨fun j hj => ?_, fun j hj => by rw [zc_up_n (by omega), zc_up_n (by omega)]; exact h' j hj⟩
  have e1 : f v = a v := by rw [h v (by omega), if_neg (by omega)]
  have e2 : f (n - 1 - v) = a (n - 1 - v) := by rw [h (n - 1 - v) (by omega), if_neg (by omega)]
  by_cases q1 : j = n - 1 - v
  · subst q1; rw [zc_up_s, e1, if_pos (by omega), show n - 1 - (n - 1 - v) = v by omega]
  · rw [zc_up_n q1]
    by_cases q2 : j = v
    · subst q2; rw [zc_up_s, e2, if_pos (by omega)]
    · rw [zc_up_n q2, h j hj]
      by_cases q3 : j < v ∨ n - 1 - j < v
      · rw [if_pos q3, if_pos (by omega)]
      · rw [if_neg q3, if_neg (by omega)]
theorem zt_swe {n v : Nat} {a f : Nat → Nat} (h : zt_sw n v a f) (hv : n - 1 - v ≤ v) : ∀ j, j < n → f j = a (n - 1 - j) := by
  intro j hj
  rw [h.1 j hj]
  by_cases q : j < v ∨ n - 1 - j < v
  · rw [if_pos q]
  · rw [if_neg q, show n - 1 - j = j by omega]
theorem zp_rev_lt (n a : Nat) : zp_rev n a < 2 ^ n := zb_lt_of (fun i h => ((zp_rev_bit n a i).mp h).1)
set_option maxHeartbeats 4000000 in
/-- turn() -/
theorem mX_turn (l : Launch) (s : zS) (hm : zx_ok s) : zc_M l zc_XL yX0_turn cX0_turn 4 1 24 (some .int) [] s (fun v s' => ∃ f g, s' = zc_st (zc_ar (zc_ar s 1 f) 2 g) 0 1 0 ∧ v = some (.int (nI (s 0 0))) ∧ (∀ j, j < s 0 0 → f j = zp_rev (s 0 0) (s 2 (s 0 0 - 1 - j)) ∧ g j = zp_rev (s 0 0) (s 1 (s 0 0 - 1 - j))) ∧ ∀ j, s 0 0 ≤ j → f j = s 1 j) := by
  refine zc_M.of (own := RX0) rfl rfl (fun _ => Nat.le_of_ble_eq_true rfl) ?_
  intro q ca G hG
  show G s 0 [(0, .ref (q 0))] []
  obtain ⟨hn, hu⟩ := hm
  have p2 : ∀ (k : Nat) (z : Nat) (f g : Nat → Nat), z ≤ s 0 0 → s 0 0 + 1 ≤ z + k → (∀ j, j < s 0 0 → f j = (if j < z then zp_rev (s 0 0) (s 2 (s 0 0 - 1 - j)) else s 1 (s 0 0 - 1 - j)) ∧ g j = (if j < z then zp_rev (s 0 0) (s 1 (s 0 0 - 1 - j)) else s 2 (s 0 0 - 1 - j))) → (∀ j, s 0 0 ≤ j → f j = s 1 j) → G (zc_ar (zc_ar s 1 f) 2 g) 34 [(0, .ref (q 0)), (1, .int (nI (s 0 0))), (2, .int (nI z))] [] := by
    intro k
    induction k with
    | zero => intros; omega
    | succ k ih =>
      intro z f g hz hk hI hJ
      refine g_iload_n hG dX0_turn_34 rfl 2 rfl ?_
      refine g_iload_n hG dX0_turn_35 rfl 1 rfl ?_
      refine g_n_ge (tgt := 81) hG dX0_turn_36 (by decide) (by omega) (by omega) (fun h1 => ?_) (fun h1 => ?_)
      · refine g_aload_n hG dX0_turn_81 rfl 0 rfl ?_
        refine g_iconst (v := nI 0) hG dX0_turn_82 rfl ?_
        refine x_puta hG (by decide) dX0_turn_83 ?_
        refine g_iload_n hG dX0_turn_86 rfl 1 rfl ?_
        exact g_iret hG rfl (rfl) dX0_turn_87 (⟨f, g, rfl, rfl, fun j hj => by
          have := hI j hj
          rw [if_pos (by omega), if_pos (by omega)] at this
          exact this, hJ⟩)
      · have hf := hI z (by omega)
        rw [if_neg (by omega), if_neg (by omega)] at hf
        have hb := hu (s 0 0 - 1 - z) (by omega)
        refine g_aload_n hG dX0_turn_39 rfl 0 rfl ?_
        refine g_aload_n hG dX0_turn_40 rfl 0 rfl ?_
        refine x_get (s := zc_ar (zc_ar s 1 f) 2 g) (v := .ref (q 2)) hG 2 (by decide) rfl q38 rfl dX0_turn_41 ?_
        refine g_iload_n hG dX0_turn_44 rfl 2 rfl ?_
        refine g_ild (s := zc_ar (zc_ar s 1 f) 2 g) (f := g) (v := z) hG 2 rfl rfl (by omega) (by decide) dX0_turn_45 ?_
        refine g_iload_n hG dX0_turn_46 rfl 1 rfl ?_
        refine g_call hG (mX_reversed l (zc_ar (zc_ar s 1 f) 2 g) (g z) (s 0 0) (by omega) hn) 2 q112 q114 qs7 q26 q115 (by decide +kernel) rfl ⟨by decide, by decide⟩ (ci := 0) rfl rfl rfl [] rfl (by simp [Value.category]) dX0_turn_47 ?_
        rintro _ _ ⟨rfl, rfl⟩
        show G (zc_ar (zc_ar s 1 f) 2 g) 50 [(0, .ref (q 0)), (1, .int (nI (s 0 0))), (2, .int (nI z))] [.int (nI (zp_rev (s 0 0) (g z)))]
        refine g_istore_n (lv' := [(0, .ref (q 0)), (1, .int (nI (s 0 0))), (2, .int (nI z)), (3, .int (nI (zp_rev (s 0 0) (g z))))]) hG dX0_turn_50 rfl (by decide) [1, 2, 3, 0] rfl ?_
        refine g_aload_n hG dX0_turn_51 rfl 0 rfl ?_
        refine x_get (s := zc_ar (zc_ar s 1 f) 2 g) (v := .ref (q 2)) hG 2 (by decide) rfl q38 rfl dX0_turn_52 ?_
        refine g_iload_n hG dX0_turn_55 rfl 2 rfl ?_
        refine g_aload_n hG dX0_turn_56 rfl 0 rfl ?_
        refine g_aload_n hG dX0_turn_57 rfl 0 rfl ?_
        refine x_get (s := zc_ar (zc_ar s 1 f) 2 g) (v := .ref (q 1)) hG 1 (by decide) rfl q37 rfl dX0_turn_58 ?_
        refine g_iload_n hG dX0_turn_61 rfl 2 rfl ?_
        refine g_ild (s := zc_ar (zc_ar s 1 f) 2 g) (f := f) (v := z) hG 1 rfl rfl (by omega) (by decide) dX0_turn_62 ?_
        refine g_iload_n hG dX0_turn_63 rfl 1 rfl ?_
        refine g_call hG (mX_reversed l (zc_ar (zc_ar s 1 f) 2 g) (f z) (s 0 0) (by omega) hn) 2 q112 q114 qs7 q26 q115 (by decide +kernel) rfl ⟨by decide, by decide⟩ (ci := 0) rfl rfl rfl [.int (nI z), .ref (q 2)] rfl (by simp [Value.category]) dX0_turn_64 ?_
        rintro _ _ ⟨rfl, rfl⟩
        show G (zc_ar (zc_ar s 1 f) 2 g) 67 [(0, .ref (q 0)), (1, .int (nI (s 0 0))), (2, .int (nI z)), (3, .int (nI (zp_rev (s 0 0) (g z))))] [.int (nI (zp_rev (s 0 0) (f z))), .int (nI z), .ref (q 2)]
        refine g_ist (s := zc_ar (zc_ar s 1 f) 2 g) (f := g) (v := z) (e := zp_rev (s 0 0) (f z)) hG 2 rfl rfl rfl (by omega) (by decide) dX0_turn_67 ?_
        refine g_eqs (s' := zc_ar (zc_ar s 1 f) 2 (zc_up g z (zp_rev (s 0 0) (f z)))) (zc_st_ar _ _ _ _ _) ?_
        refine g_aload_n hG dX0_turn_68 rfl 0 rfl ?_
        refine x_get (s := zc_ar (zc_ar s 1 f) 2 (zc_up g z (zp_rev (s 0 0) (f z)))) (v := .ref (q 1)) hG 1 (by decide) rfl q37 rfl dX0_turn_69 ?_
        refine g_iload_n hG dX0_turn_72 rfl 2 rfl ?_
        refine g_iload_n hG dX0_turn_73 rfl 3 rfl ?_
        refine g_ist (s := zc_ar (zc_ar s 1 f) 2 (zc_up g z (zp_rev (s 0 0) (f z)))) (f := f) (v := z) (e := zp_rev (s 0 0) (g z)) hG 1 rfl rfl rfl (by omega) (by decide) dX0_turn_74 ?_
        refine g_eqs (s' := zc_ar (zc_ar s 1 (zc_up f z (zp_rev (s 0 0) (g z)))) 2 (zc_up g z (zp_rev (s 0 0) (f z)))) ((zc_st_arC (by decide) _ _ _ _).trans (congrArg (fun zz_ => zc_ar zz_ 2 (zc_up g z (zp_rev (s 0 0) (f z)))) (zc_st_ar _ _ _ _ _))) ?_
        refine g_iinc (v := nI (z + 1)) (lv' := [(0, .ref (q 0)), (1, .int (nI (s 0 0))), (2, .int (nI (z + 1))), (3, .int (nI (zp_rev (s 0 0) (g z))))]) hG dX0_turn_75 2 rfl (nI_add _ _) (by decide) [1, 2, 0, 3] rfl ?_
        refine g_goto (tgt := 34) hG dX0_turn_78 (by decide) ?_
        exact g_sub (lv' := [(0, .ref (q 0)), (1, .int (nI (s 0 0))), (2, .int (nI (z + 1)))]) hG [0, 1, 2] (rfl) (ih (z + 1) _ _ (by omega) (by omega) (fun j hj => by
          by_cases e : j = z
          · subst e
            rw [zc_up_s, zc_up_s, if_pos (by omega), if_pos (by omega), hf.1, hf.2]
            exact ⟨rfl, rfl⟩
          · rw [zc_up_n e, zc_up_n e]
            have := hI j hj
            by_cases q : j < z
            · rw [if_pos q, if_pos q] at this
              rw [if_pos (by omega), if_pos (by omega)]
              exact this
            · rw [if_neg q, if_neg q] at this
              rw [if_neg (by omega), if_neg (by omega)]
              exact this) (fun j hj => by rw [zc_up_n (by omega)]; exact hJ j hj))
  refine g_eqs (s' := zc_ar s 1 (s 1)) (zc_ar_self s 1).symm ?_
  refine g_eqs (s' := zc_ar (zc_ar s 1 (s 1)) 2 (s 2)) (zc_ar_self (zc_ar s 1 (s 1)) 2).symm ?_
  rcases Nat.eq_zero_or_pos (s 0 0) with h0 | h0
  · refine g_aload_n hG dX0_turn_0 rfl 0 rfl ?_
    refine x_get (s := zc_ar (zc_ar s 1 (s 1)) 2 (s 2)) (v := .int (nI (s 0 0))) hG 0 (by decide) rfl q36 rfl dX0_turn_1 ?_
    refine g_istore_n (lv' := [(0, .ref (q 0)), (1, .int (nI (s 0 0)))]) hG dX0_turn_4 rfl (by decide) [1, 0] rfl ?_
    refine g_iconst (v := nI 0) hG dX0_turn_5 rfl ?_
    refine g_istore_n (lv' := [(0, .ref (q 0)), (1, .int (nI (s 0 0))), (2, .int (nI 0))]) hG dX0_turn_6 rfl (by decide) [1, 2, 0] rfl ?_
    refine g_iload_n hG dX0_turn_7 rfl 2 rfl ?_
    refine g_iload_n hG dX0_turn_8 rfl 1 rfl ?_
    refine g_iconst (v := nI 1) hG dX0_turn_9 rfl ?_
    refine g_isub (z := (nI (s 0 0)) - (nI 1)) hG dX0_turn_10 (rfl) ?_
    refine g_iload_n hG dX0_turn_11 rfl 2 rfl ?_
    refine g_isub (z := ((nI (s 0 0)) - (nI 1)) - (nI 0)) hG dX0_turn_12 (rfl) ?_
    refine g_icmp_ge (tgt := 32) hG dX0_turn_13 (by decide) (fun h1 => ?_) (fun h1 => ?_)
    · refine g_iconst (v := nI 0) hG dX0_turn_32 rfl ?_
      refine g_istore_n (lv' := [(0, .ref (q 0)), (1, .int (nI (s 0 0))), (2, .int (nI 0))]) hG dX0_turn_33 rfl (by decide) [1, 2, 0] rfl ?_
      exact p2 (s 0 0 + 1) 0 (s 1) (s 2) (by omega) (by omega) (fun j hj => by omega) (fun _ _ => rfl)
    · rw [h0] at h1
      exact absurd (by decide) h1
  · have p1 : ∀ (k : Nat) (z : Nat) (f g : Nat → Nat), 2 * z ≤ s 0 0 → s 0 0 + 1 ≤ z + k → zt_sw (s 0 0) z (s 1) f → zt_sw (s 0 0) z (s 2) g → G (zc_ar (zc_ar s 1 f) 2 g) 7 [(0, .ref (q 0)), (1, .int (nI (s 0 0))), (2, .int (nI z))] [] := by
      intro k
      induction k with
      | zero => intros; omega
      | succ k ih =>
        intro z f g hz hk hf hg
        refine g_iload_n hG dX0_turn_7 rfl 2 rfl ?_
        refine g_iload_n hG dX0_turn_8 rfl 1 rfl ?_
        refine g_iconst (v := nI 1) hG dX0_turn_9 rfl ?_
        refine g_isub (z := nI ((s 0 0) - 1)) hG dX0_turn_10 (pk_sub (by omega)) ?_
        refine g_iload_n hG dX0_turn_11 rfl 2 rfl ?_
        refine g_isub (z := nI (((s 0 0) - 1) - z)) hG dX0_turn_12 (pk_sub (by omega)) ?_
        refine g_n_ge (tgt := 32) hG dX0_turn_13 (by decide) (by omega) (by omega) (fun h1 => ?_) (fun h1 => ?_)
        · refine g_iconst (v := nI 0) hG dX0_turn_32 rfl ?_
          refine g_istore_n (lv' := [(0, .ref (q 0)), (1, .int (nI (s 0 0))), (2, .int (nI 0))]) hG dX0_turn_33 rfl (by decide) [1, 2, 0] rfl ?_
          exact p2 (s 0 0 + 1) 0 f g (by omega) (by omega) (fun j hj => by
            rw [if_neg (Nat.not_lt_zero _), if_neg (Nat.not_lt_zero _)]
            exact ⟨zt_swe hf (by omega) j hj, zt_swe hg (by omega) j hj⟩) hf.2
        · refine g_aload_n hG dX0_turn_16 rfl 0 rfl ?_
          refine g_iload_n hG dX0_turn_17 rfl 2 rfl ?_
          refine g_iload_n hG dX0_turn_18 rfl 1 rfl ?_
          refine g_iconst (v := nI 1) hG dX0_turn_19 rfl ?_
          refine g_isub (z := nI ((s 0 0) - 1)) hG dX0_turn_20 (pk_sub (by omega)) ?_
          refine g_iload_n hG dX0_turn_21 rfl 2 rfl ?_
          refine g_isub (z := nI (((s 0 0) - 1) - z)) hG dX0_turn_22 (pk_sub (by omega)) ?_
          refine g_call hG (mX_exchangeSets l s f g z ((s 0 0 - 1) - z) (by omega) (by omega)) 2 q108 q110 qs6 q26 q111 (by decide +kernel) rfl ⟨by decide, by decide⟩ (ci := 0) rfl rfl rfl [] rfl (by simp [Value.category]) dX0_turn_23 ?_
          rintro _ _ ⟨rfl, rfl⟩
          show G (zc_ar (zc_ar s 1 (zc_up (zc_up f z (f ((s 0 0 - 1) - z))) ((s 0 0 - 1) - z) (f z))) 2 (zc_up (zc_up g z (g ((s 0 0 - 1) - z))) ((s 0 0 - 1) - z) (g z))) 26 [(0, .ref (q 0)), (1, .int (nI (s 0 0))), (2, .int (nI z))] []
          refine g_iinc (v := nI (z + 1)) (lv' := [(0, .ref (q 0)), (1, .int (nI (s 0 0))), (2, .int (nI (z + 1)))]) hG dX0_turn_26 2 rfl (nI_add _ _) (by decide) [1, 2, 0] rfl ?_
          refine g_goto (tgt := 7) hG dX0_turn_29 (by decide) ?_
          exact ih (z + 1) _ _ (by omega) (by omega) (zt_sws hf (by omega)) (zt_sws hg (by omega))
    refine g_aload_n hG dX0_turn_0 rfl 0 rfl ?_
    refine x_get (s := zc_ar (zc_ar s 1 (s 1)) 2 (s 2)) (v := .int (nI (s 0 0))) hG 0 (by decide) rfl q36 rfl dX0_turn_1 ?_
    refine g_istore_n (lv' := [(0, .ref (q 0)), (1, .int (nI (s 0 0)))]) hG dX0_turn_4 rfl (by decide) [1, 0] rfl ?_
    refine g_iconst (v := nI 0) hG dX0_turn_5 rfl ?_
    refine g_istore_n (lv' := [(0, .ref (q 0)), (1, .int (nI (s 0 0))), (2, .int (nI 0))]) hG dX0_turn_6 rfl (by decide) [1, 2, 0] rfl ?_
    exact p1 (s 0 0 + 1) 0 (s 1) (s 2) (by omega) (by omega) (zt_sw0 _ _) (zt_sw0 _ _)
set_option maxHeartbeats 4000000 in
/-- removeLast() -/
theorem mX_removeLast (l : Launch) (s : zS) (hm : zx_ok s) : zc_M l zc_XL yX0_removeLast cX0_removeLast 2 0 0 (some .int) [] s (fun v s' => (s 0 0 = 0 ∧ v = some (.int (-1)) ∧ s = s') ∨ (0 < s 0 0 ∧ v = some (.int (nI (s 0 0 - 1))) ∧ ∃ f, s' = zc_st (zc_ar (zc_st s 0 0 (s 0 0 - 1)) 2 f) 0 1 0 ∧ ∀ j, j < s 0 0 - 1 → f j = zb_dif (s 2 j) (2 ^ (s 0 0 - 1)))) := by
  refine zc_M.of (own := RX0) rfl rfl (fun _ => Nat.le_of_ble_eq_true rfl) ?_
  intro q ca G hG
  show G s 0 [(0, .ref (q 0))] []
  obtain ⟨hn, hu⟩ := hm
  refine g_aload_n hG dX0_removeLast_0 rfl 0 rfl ?_
  refine x_get (s := s) (v := .int (nI (s 0 0))) hG 0 (by decide) rfl q36 rfl dX0_removeLast_1 ?_
  refine g_z_ne (tgt := 9) hG dX0_removeLast_4 (by decide) (by omega) (fun h => ?_) (fun h => ?_)
  · have lp : ∀ (k : Nat) (i : Nat) (f : Nat → Nat), i ≤ s 0 0 - 1 → s 0 0 - 1 + 1 ≤ i + k → f = zx_mix i (fun j => zb_dif (s 2 j) (2 ^ (s 0 0 - 1))) (s 2) → G (zc_ar (zc_st s 0 0 (s 0 0 - 1)) 2 f) 21 [(0, .ref (q 0)), (1, .int (nI i))] [] := by
      intro k
      induction k with
      | zero => intros; omega
      | succ k ih =>
        intro i f hi hk hI
        refine g_iload_n hG dX0_removeLast_21 rfl 1 rfl ?_
        refine g_aload_n hG dX0_removeLast_22 rfl 0 rfl ?_
        refine x_get (s := zc_ar (zc_st s 0 0 (s 0 0 - 1)) 2 f) (v := .int (nI (s 0 0 - 1))) hG 0 (by decide) rfl q36 rfl dX0_removeLast_23 ?_
        refine g_n_ge (tgt := 52) hG dX0_removeLast_26 (by decide) (by omega) (by omega) (fun h1 => ?_) (fun h1 => ?_)
        · refine g_aload_n hG dX0_removeLast_52 rfl 0 rfl ?_
          refine g_iconst (v := nI 0) hG dX0_removeLast_53 rfl ?_
          refine x_puta hG (by decide) dX0_removeLast_54 ?_
          refine g_aload_n hG dX0_removeLast_57 rfl 0 rfl ?_
          refine x_get (s := zc_st (zc_ar (zc_st s 0 0 (s 0 0 - 1)) 2 f) 0 1 0) (v := .int (nI (s 0 0 - 1))) hG 0 (by decide) rfl q36 rfl dX0_removeLast_58 ?_
          exact g_iret hG rfl (rfl) dX0_removeLast_61 (Or.inr ⟨by omega, rfl, f, rfl, fun j hj => by rw [hI, zx_mix_lt (by omega)]⟩)
        · have hfi : f i = s 2 i := by rw [hI]; exact zx_mix_ge (Nat.lt_irrefl i)
          refine g_aload_n hG dX0_removeLast_29 rfl 0 rfl ?_
          refine x_get (s := zc_ar (zc_st s 0 0 (s 0 0 - 1)) 2 f) (v := .ref (q 2)) hG 2 (by decide) rfl q38 rfl dX0_removeLast_30 ?_
          refine g_iload_n hG dX0_removeLast_33 rfl 1 rfl ?_
          refine g_dup2 hG dX0_removeLast_34 rfl rfl ?_
          refine g_ild (s := zc_ar (zc_st s 0 0 (s 0 0 - 1)) 2 f) (f := f) (v := i) hG 2 rfl rfl (by omega) (by decide) dX0_removeLast_35 ?_
          refine g_iconst (v := nI 1) hG dX0_removeLast_36 rfl ?_
          refine g_aload_n hG dX0_removeLast_37 rfl 0 rfl ?_
          refine x_get (s := zc_ar (zc_st s 0 0 (s 0 0 - 1)) 2 f) (v := .int (nI (s 0 0 - 1))) hG 0 (by decide) rfl q36 rfl dX0_removeLast_38 ?_
          refine g_ishl (z := nI (2 ^ (s 0 0 - 1))) hG dX0_removeLast_41 (nx_shl1 (s 0 0 - 1) (by omega)) ?_
          refine g_iconst (v := -1) hG dX0_removeLast_42 rfl ?_
          refine g_ixor (z := nI (2 ^ (s 0 0 - 1)) ^^^ (-1)) hG dX0_removeLast_43 (rfl) ?_
          refine g_iand (z := nI (zb_dif (f i) (2 ^ (s 0 0 - 1)))) hG dX0_removeLast_44 (nx_not _ _) ?_
          refine g_ist (s := zc_ar (zc_st s 0 0 (s 0 0 - 1)) 2 f) (f := f) (v := i) (e := zb_dif (f i) (2 ^ (s 0 0 - 1))) hG 2 rfl rfl rfl (by omega) (by decide) dX0_removeLast_45 ?_
          refine g_eqs (s' := zc_ar (zc_st s 0 0 (s 0 0 - 1)) 2 (zc_up f i (zb_dif (f i) (2 ^ (s 0 0 - 1))))) (zc_st_ar _ _ _ _ _) ?_
          refine g_iinc (v := nI (i + 1)) (lv' := [(0, .ref (q 0)), (1, .int (nI (i + 1)))]) hG dX0_removeLast_46 1 rfl (nI_add _ _) (by decide) [1, 0] rfl ?_
          refine g_goto (tgt := 21) hG dX0_removeLast_49 (by decide) ?_
          exact ih (i + 1) _ (by omega) (by omega) (by rw [hfi, hI]; exact zx_mix_s i (fun j => zb_dif (s 2 j) (2 ^ (s 0 0 - 1))) (s 2))
    refine g_aload_n hG dX0_removeLast_9 rfl 0 rfl ?_
    refine g_dup hG dX0_removeLast_10 rfl ?_
    refine x_get (s := s) (v := .int (nI (s 0 0))) hG 0 (by decide) rfl q36 rfl dX0_removeLast_11 ?_
    refine g_iconst (v := nI 1) hG dX0_removeLast_14 rfl ?_
    refine g_isub (z := nI ((s 0 0) - 1)) hG dX0_removeLast_15 (pk_sub (by omega)) ?_
    refine x_putn hG dX0_removeLast_16 ?_
    refine g_iconst (v := nI 0) hG dX0_removeLast_19 rfl ?_
    refine g_istore_n (lv' := [(0, .ref (q 0)), (1, .int (nI 0))]) hG dX0_removeLast_20 rfl (by decide) [1, 0] rfl ?_
    refine g_eqs (s' := zc_ar (zc_st s 0 0 (s 0 0 - 1)) 2 (s 2)) (zc_ar_self (zc_st s 0 0 (s 0 0 - 1)) 2).symm ?_
    exact lp (s 0 0 - 1 + 1) 0 (s 2) (by omega) (by omega) (zx_mix_0 _ _)
  · refine g_iconst (v := -1) hG dX0_removeLast_7 rfl ?_
    exact g_iret hG rfl (rfl) dX0_removeLast_8 (Or.inl ⟨by omega, rfl, rfl⟩)
set_option maxHeartbeats 4000000 in
/-- loadKept() -/
theorem mX_loadKept (l : Launch) (s : zS) (hn : s 0 0 ≤ 10) (hb : ∀ j, j < s 0 0 → s 3 j ≤ 10 ∧ s 4 j ≤ 10) : zc_M l zc_XL yX0_loadKept cX0_loadKept 2 0 0 none [] s (fun v s' => v = none ∧ s' = zc_ar (zc_ar s 5 (zx_mix (s 0 0) (s 3) (s 5))) 6 (zx_mix (s 0 0) (s 4) (s 6))) := by
  refine zc_M.of (own := RX0) rfl rfl (fun _ => Nat.le_of_ble_eq_true rfl) ?_
  intro q ca G hG
  show G s 0 [(0, .ref (q 0))] []
  have lp : ∀ (k : Nat) (i : Nat) (f g : Nat → Nat), i ≤ s 0 0 → s 0 0 + 1 ≤ i + k → f = zx_mix i (s 3) (s 5) → g = zx_mix i (s 4) (s 6) → G (zc_ar (zc_ar s 5 f) 6 g) 2 [(0, .ref (q 0)), (1, .int (nI i))] [] := by
    intro k
    induction k with
    | zero => intros; omega
    | succ k ih =>
      intro i f g hi hk hf hg
      refine g_iload_n hG dX0_loadKept_2 rfl 1 rfl ?_
      refine g_aload_n hG dX0_loadKept_3 rfl 0 rfl ?_
      refine x_get (s := zc_ar (zc_ar s 5 f) 6 g) (v := .int (nI (s 0 0))) hG 0 (by decide) rfl q36 rfl dX0_loadKept_4 ?_
      refine g_n_ge (tgt := 40) hG dX0_loadKept_7 (by decide) (by omega) (by omega) (fun h1 => ?_) (fun h1 => ?_)
      · obtain rfl : i = s 0 0 := by omega
        exact g_vret hG rfl dX0_loadKept_40 (⟨rfl, by rw [hf, hg]⟩)
      · have hb8 := hb i (by omega)
        refine g_aload_n hG dX0_loadKept_10 rfl 0 rfl ?_
        refine x_get (s := zc_ar (zc_ar s 5 f) 6 g) (v := .ref (q 5)) hG 6 (by decide) rfl q42 rfl dX0_loadKept_11 ?_
        refine g_iload_n hG dX0_loadKept_14 rfl 1 rfl ?_
        refine g_aload_n hG dX0_loadKept_15 rfl 0 rfl ?_
        refine x_get (s := zc_ar (zc_ar s 5 f) 6 g) (v := .ref (q 3)) hG 4 (by decide) rfl q40 rfl dX0_loadKept_16 ?_
        refine g_iload_n hG dX0_loadKept_19 rfl 1 rfl ?_
        refine g_bldp (s := zc_ar (zc_ar s 5 f) 6 g) (f := s 3) (v := i) hG 3 rfl rfl (by omega) (by decide) dX0_loadKept_20 ?_
        refine g_bstp (s := zc_ar (zc_ar s 5 f) 6 g) (f := f) (v := i) (e := s 3 i) hG 5 rfl rfl rfl (by omega) (by decide) (by omega) dX0_loadKept_21 ?_
        refine g_eqs (s' := zc_ar (zc_ar s 5 (zc_up f i (s 3 i))) 6 g) ((zc_st_arC (by decide) _ _ _ _).trans (congrArg (fun zz_ => zc_ar zz_ 6 g) (zc_st_ar _ _ _ _ _))) ?_
        refine g_aload_n hG dX0_loadKept_22 rfl 0 rfl ?_
        refine x_get (s := zc_ar (zc_ar s 5 (zc_up f i (s 3 i))) 6 g) (v := .ref (q 6)) hG 7 (by decide) rfl q43 rfl dX0_loadKept_23 ?_
        refine g_iload_n hG dX0_loadKept_26 rfl 1 rfl ?_
        refine g_aload_n hG dX0_loadKept_27 rfl 0 rfl ?_
        refine x_get (s := zc_ar (zc_ar s 5 (zc_up f i (s 3 i))) 6 g) (v := .ref (q 4)) hG 5 (by decide) rfl q41 rfl dX0_loadKept_28 ?_
        refine g_iload_n hG dX0_loadKept_31 rfl 1 rfl ?_
        refine g_bldp (s := zc_ar (zc_ar s 5 (zc_up f i (s 3 i))) 6 g) (f := s 4) (v := i) hG 4 rfl rfl (by omega) (by decide) dX0_loadKept_32 ?_
        refine g_bstp (s := zc_ar (zc_ar s 5 (zc_up f i (s 3 i))) 6 g) (f := g) (v := i) (e := s 4 i) hG 6 rfl rfl rfl (by omega) (by decide) (by omega) dX0_loadKept_33 ?_
        refine g_eqs (s' := zc_ar (zc_ar s 5 (zc_up f i (s 3 i))) 6 (zc_up g i (s 4 i))) (zc_st_ar _ _ _ _ _) ?_
        refine g_iinc (v := nI (i + 1)) (lv' := [(0, .ref (q 0)), (1, .int (nI (i + 1)))]) hG dX0_loadKept_34 1 rfl (nI_add _ _) (by decide) [1, 0] rfl ?_
        refine g_goto (tgt := 2) hG dX0_loadKept_37 (by decide) ?_
        exact ih (i + 1) _ _ (by omega) (by omega) (by rw [hf]; exact zx_mix_s i (s 3) (s 5)) (by rw [hg]; exact zx_mix_s i (s 4) (s 6))
  refine g_eqs (s' := zc_ar s 5 (s 5)) (zc_ar_self s 5).symm ?_
  refine g_eqs (s' := zc_ar (zc_ar s 5 (s 5)) 6 (s 6)) (zc_ar_self (zc_ar s 5 (s 5)) 6).symm ?_
  refine g_iconst (v := nI 0) hG dX0_loadKept_0 rfl ?_
  refine g_istore_n (lv' := [(0, .ref (q 0)), (1, .int (nI 0))]) hG dX0_loadKept_1 rfl (by decide) [1, 0] rfl ?_
  exact lp (s 0 0 + 1) 0 _ _ (by omega) (by omega) (zx_mix_0 _ _) (zx_mix_0 _ _)
set_option maxHeartbeats 4000000 in
/-- storeKept() -/
theorem mX_storeKept (l : Launch) (s : zS) (hn : s 0 0 ≤ 10) (hb : ∀ j, j < s 0 0 → s 5 j ≤ 10 ∧ s 6 j ≤ 10) : zc_M l zc_XL yX0_storeKept cX0_storeKept 2 0 0 none [] s (fun v s' => v = none ∧ s' = zc_ar (zc_ar s 3 (zx_mix (s 0 0) (s 5) (s 3))) 4 (zx_mix (s 0 0) (s 6) (s 4))) := by
  refine zc_M.of (own := RX0) rfl rfl (fun _ => Nat.le_of_ble_eq_true rfl) ?_
  intro q ca G hG
  show G s 0 [(0, .ref (q 0))] []
  have lp : ∀ (k : Nat) (i : Nat) (f g : Nat → Nat), i ≤ s 0 0 → s 0 0 + 1 ≤ i + k → f = zx_mix i (s 5) (s 3) → g = zx_mix i (s 6) (s 4) → G (zc_ar (zc_ar s 3 f) 4 g) 2 [(0, .ref (q 0)), (1, .int (nI i))] [] := by
    intro k
    induction k with
    | zero => intros; omega
    | succ k ih =>
      intro i f g hi hk hf hg
      refine g_iload_n hG dX0_storeKept_2 rfl 1 rfl ?_
      refine g_aload_n hG dX0_storeKept_3 rfl 0 rfl ?_
      refine x_get (s := zc_ar (zc_ar s 3 f) 4 g) (v := .int (nI (s 0 0))) hG 0 (by decide) rfl q36 rfl dX0_storeKept_4 ?_
      refine g_n_ge (tgt := 40) hG dX0_storeKept_7 (by decide) (by omega) (by omega) (fun h1 => ?_) (fun h1 => ?_)
      · obtain rfl : i = s 0 0 := by omega
        exact g_vret hG rfl dX0_storeKept_40 (⟨rfl, by rw [hf, hg]⟩)
      · have hb8 := hb i (by omega)
        refine g_aload_n hG dX0_storeKept_10 rfl 0 rfl ?_
        refine x_get (s := zc_ar (zc_ar s 3 f) 4 g) (v := .ref (q 3)) hG 4 (by decide) rfl q40 rfl dX0_storeKept_11 ?_
        refine g_iload_n hG dX0_storeKept_14 rfl 1 rfl ?_
        refine g_aload_n hG dX0_storeKept_15 rfl 0 rfl ?_
        refine x_get (s := zc_ar (zc_ar s 3 f) 4 g) (v := .ref (q 5)) hG 6 (by decide) rfl q42 rfl dX0_storeKept_16 ?_
        refine g_iload_n hG dX0_storeKept_19 rfl 1 rfl ?_
        refine g_bldp (s := zc_ar (zc_ar s 3 f) 4 g) (f := s 5) (v := i) hG 5 rfl rfl (by omega) (by decide) dX0_storeKept_20 ?_
        refine g_bstp (s := zc_ar (zc_ar s 3 f) 4 g) (f := f) (v := i) (e := s 5 i) hG 3 rfl rfl rfl (by omega) (by decide) (by omega) dX0_storeKept_21 ?_
        refine g_eqs (s' := zc_ar (zc_ar s 3 (zc_up f i (s 5 i))) 4 g) ((zc_st_arC (by decide) _ _ _ _).trans (congrArg (fun zz_ => zc_ar zz_ 4 g) (zc_st_ar _ _ _ _ _))) ?_
        refine g_aload_n hG dX0_storeKept_22 rfl 0 rfl ?_
        refine x_get (s := zc_ar (zc_ar s 3 (zc_up f i (s 5 i))) 4 g) (v := .ref (q 4)) hG 5 (by decide) rfl q41 rfl dX0_storeKept_23 ?_
        refine g_iload_n hG dX0_storeKept_26 rfl 1 rfl ?_
        refine g_aload_n hG dX0_storeKept_27 rfl 0 rfl ?_
        refine x_get (s := zc_ar (zc_ar s 3 (zc_up f i (s 5 i))) 4 g) (v := .ref (q 6)) hG 7 (by decide) rfl q43 rfl dX0_storeKept_28 ?_
        refine g_iload_n hG dX0_storeKept_31 rfl 1 rfl ?_
        refine g_bldp (s := zc_ar (zc_ar s 3 (zc_up f i (s 5 i))) 4 g) (f := s 6) (v := i) hG 6 rfl rfl (by omega) (by decide) dX0_storeKept_32 ?_
        refine g_bstp (s := zc_ar (zc_ar s 3 (zc_up f i (s 5 i))) 4 g) (f := g) (v := i) (e := s 6 i) hG 4 rfl rfl rfl (by omega) (by decide) (by omega) dX0_storeKept_33 ?_
        refine g_eqs (s' := zc_ar (zc_ar s 3 (zc_up f i (s 5 i))) 4 (zc_up g i (s 6 i))) (zc_st_ar _ _ _ _ _) ?_
        refine g_iinc (v := nI (i + 1)) (lv' := [(0, .ref (q 0)), (1, .int (nI (i + 1)))]) hG dX0_storeKept_34 1 rfl (nI_add _ _) (by decide) [1, 0] rfl ?_
        refine g_goto (tgt := 2) hG dX0_storeKept_37 (by decide) ?_
        exact ih (i + 1) _ _ (by omega) (by omega) (by rw [hf]; exact zx_mix_s i (s 5) (s 3)) (by rw [hg]; exact zx_mix_s i (s 6) (s 4))
  refine g_eqs (s' := zc_ar s 3 (s 3)) (zc_ar_self s 3).symm ?_
  refine g_eqs (s' := zc_ar (zc_ar s 3 (s 3)) 4 (s 4)) (zc_ar_self (zc_ar s 3 (s 3)) 4).symm ?_
  refine g_iconst (v := nI 0) hG dX0_storeKept_0 rfl ?_
  refine g_istore_n (lv' := [(0, .ref (q 0)), (1, .int (nI 0))]) hG dX0_storeKept_1 rfl (by decide) [1, 0] rfl ?_
  exact lp (s 0 0 + 1) 0 _ _ (by omega) (by omega) (zx_mix_0 _ _) (zx_mix_0 _ _)
set_option maxHeartbeats 4000000 in
/-- longestUnder(z, a) -/
theorem mX_longestUnder (l : Launch) (s : zS) (z a : Nat) (hm : zx_ok s) (hz : z < s 0 0) (hc : ∀ j, j < z → s 9 j ≤ 10) : zc_M l zc_XL yX0_longestUnder cX0_longestUnder 5 0 0 (some .int) [.int (nI z), .int (nI a)] s (fun v s' => ∃ b, b ≤ 10 ∧ v = some (.int (nI b)) ∧ s = s' ∧ (∀ u, u < z → (s 1 z).testBit u = true → a.testBit u = true → s 9 u ≤ b) ∧ (b = 0 ∨ ∃ u, u < z ∧ (s 1 z).testBit u = true ∧ a.testBit u = true ∧ s 9 u = b)) := by
  refine zc_M.of (own := RX0) rfl rfl (fun _ => Nat.le_of_ble_eq_true rfl) ?_
  intro q ca G hG
  show G s 0 [(0, .ref (q 0)), (1, .int (nI z)), (2, .int (nI a))] []
  obtain ⟨hn, hu⟩ := hm
  have hz8 := (hu z hz).1
  have lp : ∀ (k : Nat) (i b : Nat), b ≤ 10 → i ≤ z → z + 1 ≤ i + k → (∀ u, u < i → (s 1 z).testBit u = true → a.testBit u = true → s 9 u ≤ b) → (b = 0 ∨ ∃ u, u < i ∧ (s 1 z).testBit u = true ∧ a.testBit u = true ∧ s 9 u = b) → G s 5 [(0, .ref (q 0)), (1, .int (nI z)), (2, .int (nI a)), (3, .int (nI b)), (4, .int (nI i))] [] := by
    intro k
    induction k with
    | zero => intros; omega
    | succ k ih =>
      intro i b hb10 hi hk hI hJ
      refine g_iload hG dX0_longestUnder_5 4 rfl ?_
      refine g_iload_n hG dX0_longestUnder_7 rfl 1 rfl ?_
      refine g_n_ge (tgt := 52) hG dX0_longestUnder_8 (by decide) (by omega) (by omega) (fun h1 => ?_) (fun h1 => ?_)
      · refine g_iload_n hG dX0_longestUnder_52 rfl 3 rfl ?_
        exact g_iret hG rfl (rfl) dX0_longestUnder_53 (⟨b, hb10, rfl, rfl, fun u hu => hI u (by omega), hJ.imp id (fun ⟨u, q1, q2⟩ => ⟨u, by omega, q2⟩)⟩)
      · have hc8 := hc i (by omega)
        refine g_aload_n hG dX0_longestUnder_11 rfl 0 rfl ?_
        refine x_get (s := s) (v := .ref (q 1)) hG 1 (by decide) rfl q37 rfl dX0_longestUnder_12 ?_
        refine g_iload_n hG dX0_longestUnder_15 rfl 1 rfl ?_
        refine g_ild (s := s) (f := s 1) (v := z) hG 1 rfl rfl (by omega) (by decide) dX0_longestUnder_16 ?_
        refine g_iload_n hG dX0_longestUnder_17 rfl 2 rfl ?_
        refine g_iand (z := nI ((s 1 z) &&& a)) hG dX0_longestUnder_18 (nx_and _ _) ?_
        refine g_iconst (v := nI 1) hG dX0_longestUnder_19 rfl ?_
        refine g_iload hG dX0_longestUnder_20 4 rfl ?_
        refine g_ishl (z := nI (2 ^ i)) hG dX0_longestUnder_22 (nx_shl1 i (by omega)) ?_
        refine g_iand (z := nI (((s 1 z) &&& a) &&& (2 ^ i))) hG dX0_longestUnder_23 (nx_and _ _) ?_
        refine g_z_eq (tgt := 46) hG dX0_longestUnder_24 (by decide) (zb_and_lt (zb_and_lt (by omega))) (fun h2 => ?_) (fun h2 => ?_)
        · refine g_iinc (v := nI (i + 1)) (lv' := [(0, .ref (q 0)), (1, .int (nI z)), (2, .int (nI a)), (3, .int (nI b)), (4, .int (nI (i + 1)))]) hG dX0_longestUnder_46 4 rfl (nI_add _ _) (by decide) [1, 2, 3, 4, 0] rfl ?_
          refine g_goto (tgt := 5) hG dX0_longestUnder_49 (by decide) ?_
          exact ih (i + 1) b hb10 (by omega) (by omega) (lt_s hI (fun q1 q2 => absurd ((zb_and_iff _ _ _).mpr ⟨q1, q2⟩) (zb_and_pow.mp h2))) (hJ.imp id (fun ⟨u, q1, q2⟩ => ⟨u, by omega, q2⟩))
        · have h2 := (zb_and_iff _ _ _).mp (Classical.not_not.mp (fun z => h2 (zb_and_pow.mpr z)))
          refine g_aload_n hG dX0_longestUnder_27 rfl 0 rfl ?_
          refine x_get (s := s) (v := .ref (q 9)) hG 10 (by decide) rfl q46 rfl dX0_longestUnder_28 ?_
          refine g_iload hG dX0_longestUnder_31 4 rfl ?_
          refine g_bldn (s := s) (f := s 9) (v := i) hG 9 rfl rfl (by omega) (by decide) dX0_longestUnder_33 ?_
          refine g_iload_n hG dX0_longestUnder_34 rfl 3 rfl ?_
          refine g_n_le (tgt := 46) hG dX0_longestUnder_35 (by decide) (by omega) (by omega) (fun h3 => ?_) (fun h3 => ?_)
          · refine g_iinc (v := nI (i + 1)) (lv' := [(0, .ref (q 0)), (1, .int (nI z)), (2, .int (nI a)), (3, .int (nI b)), (4, .int (nI (i + 1)))]) hG dX0_longestUnder_46 4 rfl (nI_add _ _) (by decide) [1, 2, 3, 4, 0] rfl ?_
            refine g_goto (tgt := 5) hG dX0_longestUnder_49 (by decide) ?_
            exact ih (i + 1) b hb10 (by omega) (by omega) (lt_s hI (fun _ _ => h3)) (hJ.imp id (fun ⟨u, q1, q2⟩ => ⟨u, by omega, q2⟩))
          · refine g_aload_n hG dX0_longestUnder_38 rfl 0 rfl ?_
            refine x_get (s := s) (v := .ref (q 9)) hG 10 (by decide) rfl q46 rfl dX0_longestUnder_39 ?_
            refine g_iload hG dX0_longestUnder_42 4 rfl ?_
            refine g_bldn (s := s) (f := s 9) (v := i) hG 9 rfl rfl (by omega) (by decide) dX0_longestUnder_44 ?_
            refine g_istore_n (lv' := [(0, .ref (q 0)), (1, .int (nI z)), (2, .int (nI a)), (3, .int (nI (s 9 i))), (4, .int (nI i))]) hG dX0_longestUnder_45 rfl (by decide) [1, 2, 3, 0, 4] rfl ?_
            refine g_iinc (v := nI (i + 1)) (lv' := [(0, .ref (q 0)), (1, .int (nI z)), (2, .int (nI a)), (3, .int (nI (s 9 i))), (4, .int (nI (i + 1)))]) hG dX0_longestUnder_46 4 rfl (nI_add _ _) (by decide) [1, 2, 3, 4, 0] rfl ?_
            refine g_goto (tgt := 5) hG dX0_longestUnder_49 (by decide) ?_
            exact ih (i + 1) (s 9 i) (by omega) (by omega) (by omega) (lt_s (fun u q0 q1 q2 => by have := hI u q0 q1 q2; omega) (fun _ _ => Nat.le_refl _)) (Or.inr ⟨i, by omega, h2.1, h2.2, rfl⟩)
  refine g_iconst (v := nI 0) hG dX0_longestUnder_0 rfl ?_
  refine g_istore_n (lv' := [(0, .ref (q 0)), (1, .int (nI z)), (2, .int (nI a)), (3, .int (nI 0))]) hG dX0_longestUnder_1 rfl (by decide) [1, 2, 3, 0] rfl ?_
  refine g_iconst (v := nI 0) hG dX0_longestUnder_2 rfl ?_
  refine g_istore (lv' := [(0, .ref (q 0)), (1, .int (nI z)), (2, .int (nI a)), (3, .int (nI 0)), (4, .int (nI 0))]) hG dX0_longestUnder_3 (by decide) [1, 2, 3, 4, 0] rfl ?_
  exact lp (z + 1) 0 0 (by omega) (by omega) (by omega) (fun _ h => absurd h (Nat.not_lt_zero _)) (Or.inl rfl)
set_option maxHeartbeats 4000000 in
/-- longestChain(x) -/
theorem mX_longestChain (l : Launch) (s : zS) (x : Int32) (hm : zx_ok s) (hP : zp_Po (s 0 0) (s 1)) : zc_M l zc_XL yX0_longestChain cX0_longestChain 5 1 24 (some .int) [.int x] s (fun v s' => ∃ f, s' = zc_ar s 9 f ∧ ((¬ zp_is (s 0 0) x ∧ v = some (.int (-1))) ∨ (∃ a k, a < 2 ^ s 0 0 ∧ x = nI a ∧ zp_Mx (s 0 0) (s 1) a True k ∧ v = some (.int (nI k))))) := by
  refine zc_M.of (own := RX0) rfl rfl (fun _ => Nat.le_of_ble_eq_true rfl) ?_
  intro q ca G hG
  show G s 0 [(0, .ref (q 0)), (1, .int x)] []
  have hn := hm.1
  refine g_aload_n hG dX0_longestChain_0 rfl 0 rfl ?_
  refine g_iload_n hG dX0_longestChain_1 rfl 1 rfl ?_
  refine g_call hG (mX_isSet l s x hn) 1 q76 q78 qs0 q26 q79 (by decide +kernel) rfl ⟨by decide, by decide⟩ (ci := 0) rfl rfl rfl [] rfl (by simp [Value.category]) dX0_longestChain_2 ?_
  rintro _ _ ⟨rfl, rfl⟩
  show G s 5 [(0, .ref (q 0)), (1, .int x)] [.int (pB (zp_is (s 0 0) x))]
  refine g_b_ne (tgt := 10) hG dX0_longestChain_5 (by decide) (fun h1 => ?_) (fun h1 => ?_)
  · obtain ⟨a, ha, rfl⟩ := h1
    have ha31 := zb_lt31 ha (by omega)
    have lp : ∀ (k : Nat) (i b : Nat) (f : Nat → Nat), b ≤ 10 → i ≤ s 0 0 → s 0 0 + 1 ≤ i + k → (∀ j, j < i → zl_T (s 0 0) (s 1) a j (f j)) → (∀ j, j < i → f j ≤ b) → (b = 0 ∨ ∃ j, j < i ∧ a.testBit j = true ∧ f j = b) → G (zc_ar s 9 f) 14 [(0, .ref (q 0)), (1, .int (nI a)), (2, .int (nI b)), (3, .int (nI i))] [] := by
      intro k
      induction k with
      | zero => intros; omega
      | succ k ih =>
        intro i b f hb10 hi hk hI hJ hL
        refine g_iload_n hG dX0_longestChain_14 rfl 3 rfl ?_
        refine g_aload_n hG dX0_longestChain_15 rfl 0 rfl ?_
        refine x_get (s := zc_ar s 9 f) (v := .int (nI (s 0 0))) hG 0 (by decide) rfl q36 rfl dX0_longestChain_16 ?_
        refine g_n_ge (tgt := 67) hG dX0_longestChain_19 (by decide) (by omega) (by omega) (fun h1 => ?_) (fun h1 => ?_)
        · refine g_iload_n hG dX0_longestChain_67 rfl 2 rfl ?_
          exact g_iret hG rfl (rfl) dX0_longestChain_68 (⟨f, rfl, Or.inr ⟨a, b, ha, rfl, zl_end ha (fun j hj => hI j (by omega)) (fun j hj => hJ j (by omega)) (hL.imp id (fun ⟨j, q1, q2⟩ => ⟨j, by omega, q2⟩)), rfl⟩⟩)
        · refine g_iconst (v := nI 0) hG dX0_longestChain_22 rfl ?_
          refine g_istore (lv' := [(0, .ref (q 0)), (1, .int (nI a)), (2, .int (nI b)), (3, .int (nI i)), (4, .int (nI 0))]) hG dX0_longestChain_23 (by decide) [1, 2, 3, 4, 0] rfl ?_
          refine g_iload_n hG dX0_longestChain_25 rfl 1 rfl ?_
          refine g_iload_n hG dX0_longestChain_26 rfl 3 rfl ?_
          refine g_ishr (z := nI (a >>> i)) hG dX0_longestChain_27 (nx_shr (by omega) (by omega)) ?_
          refine g_iconst (v := nI 1) hG dX0_longestChain_28 rfl ?_
          refine g_iand (z := pB (a.testBit i = true)) hG dX0_longestChain_29 (nx_tb _ _) ?_
          refine g_b_eq (tgt := 43) hG dX0_longestChain_30 (by decide) (fun h2 => ?_) (fun h2 => ?_)
          · refine g_aload_n hG dX0_longestChain_43 rfl 0 rfl ?_
            refine x_get (s := zc_ar s 9 f) (v := .ref (q 9)) hG 10 (by decide) rfl q46 rfl dX0_longestChain_44 ?_
            refine g_iload_n hG dX0_longestChain_47 rfl 3 rfl ?_
            refine g_iload hG dX0_longestChain_48 4 rfl ?_
            refine g_i2b (v := nI 0) hG dX0_longestChain_50 (zc_b8n _ (by omega)) ?_
            refine g_bstn (s := zc_ar s 9 f) (f := f) (v := i) (e := 0) hG 9 rfl rfl rfl (by omega) (by decide) (by omega) dX0_longestChain_51 ?_
            refine g_eqs (s' := zc_ar s 9 (zc_up f i 0)) (zc_st_ar _ _ _ _ _) ?_
            refine g_iload hG dX0_longestChain_52 4 rfl ?_
            refine g_iload_n hG dX0_longestChain_54 rfl 2 rfl ?_
            refine g_n_le (tgt := 61) hG dX0_longestChain_55 (by decide) (by omega) (by omega) (fun h3 => ?_) (fun h3 => ?_)
            · refine g_iinc (v := nI (i + 1)) (lv' := [(0, .ref (q 0)), (1, .int (nI a)), (2, .int (nI b)), (3, .int (nI (i + 1))), (4, .int (nI 0))]) hG dX0_longestChain_61 3 rfl (nI_add _ _) (by decide) [1, 2, 3, 0, 4] rfl ?_
              refine g_goto (tgt := 14) hG dX0_longestChain_64 (by decide) ?_
              exact g_sub (lv' := [(0, .ref (q 0)), (1, .int (nI a)), (2, .int (nI b)), (3, .int (nI (i + 1)))]) hG [0, 1, 2, 3] (rfl) (ih (i + 1) b (zc_up f i 0) hb10 (by omega) (by omega) (zl_up (P := fun j x => zl_T (s 0 0) (s 1) a j x) hI ⟨fun _ => rfl, fun q => absurd q h2⟩) (zl_up (P := fun j x => x ≤ b) hJ (Nat.zero_le _)) (hL.imp id (fun ⟨j, q1, q2, q3⟩ => ⟨j, by omega, q2, by rw [zc_up_n (by omega)]; exact q3⟩)))
            · exact absurd (Nat.zero_le _) h3
          · refine g_iconst (v := nI 1) hG dX0_longestChain_33 rfl ?_
            refine g_aload_n hG dX0_longestChain_34 rfl 0 rfl ?_
            refine g_iload_n hG dX0_longestChain_35 rfl 3 rfl ?_
            refine g_iload_n hG dX0_longestChain_36 rfl 1 rfl ?_
            refine g_call hG (mX_longestUnder l (zc_ar s 9 f) i a hm (show i < s 0 0 by omega) (fun j hj => zl_le (hI j hj))) 2 q156 q158 qs13 q26 q159 (by decide +kernel) rfl ⟨by decide, by decide⟩ (ci := 0) rfl rfl rfl [.int (nI 1)] rfl (by simp [Value.category]) dX0_longestChain_37 ?_
            rintro _ _ ⟨c, hc10, rfl, rfl, hc1, hc2⟩
            show G (zc_ar s 9 f) 40 [(0, .ref (q 0)), (1, .int (nI a)), (2, .int (nI b)), (3, .int (nI i)), (4, .int (nI 0))] [.int (nI c), .int (nI 1)]
            have hT := zl_step hP hn (by omega) ha h2 hI hc1 hc2
            refine g_iadd (z := nI (1 + c)) hG dX0_longestChain_40 (nI_add _ _) ?_
            refine g_istore (lv' := [(0, .ref (q 0)), (1, .int (nI a)), (2, .int (nI b)), (3, .int (nI i)), (4, .int (nI (1 + c)))]) hG dX0_longestChain_41 (by decide) [1, 2, 3, 4, 0] rfl ?_
            refine g_aload_n hG dX0_longestChain_43 rfl 0 rfl ?_
            refine x_get (s := zc_ar s 9 f) (v := .ref (q 9)) hG 10 (by decide) rfl q46 rfl dX0_longestChain_44 ?_
            refine g_iload_n hG dX0_longestChain_47 rfl 3 rfl ?_
            refine g_iload hG dX0_longestChain_48 4 rfl ?_
            refine g_i2b (v := nI (1 + c)) hG dX0_longestChain_50 (zc_b8n _ (by omega)) ?_
            refine g_bstn (s := zc_ar s 9 f) (f := f) (v := i) (e := 1 + c) hG 9 rfl rfl rfl (by omega) (by decide) (by omega) dX0_longestChain_51 ?_
            refine g_eqs (s' := zc_ar s 9 (zc_up f i (1 + c))) (zc_st_ar _ _ _ _ _) ?_
            refine g_iload hG dX0_longestChain_52 4 rfl ?_
            refine g_iload_n hG dX0_longestChain_54 rfl 2 rfl ?_
            refine g_n_le (tgt := 61) hG dX0_longestChain_55 (by decide) (by omega) (by omega) (fun h3 => ?_) (fun h3 => ?_)
            · refine g_iinc (v := nI (i + 1)) (lv' := [(0, .ref (q 0)), (1, .int (nI a)), (2, .int (nI b)), (3, .int (nI (i + 1))), (4, .int (nI (1 + c)))]) hG dX0_longestChain_61 3 rfl (nI_add _ _) (by decide) [1, 2, 3, 0, 4] rfl ?_
              refine g_goto (tgt := 14) hG dX0_longestChain_64 (by decide) ?_
              exact g_sub (lv' := [(0, .ref (q 0)), (1, .int (nI a)), (2, .int (nI b)), (3, .int (nI (i + 1)))]) hG [0, 1, 2, 3] (rfl) (ih (i + 1) b (zc_up f i (1 + c)) hb10 (by omega) (by omega) (zl_up (P := fun j x => zl_T (s 0 0) (s 1) a j x) hI hT) (zl_up (P := fun j x => x ≤ b) hJ h3) (hL.imp id (fun ⟨j, q1, q2, q3⟩ => ⟨j, by omega, q2, by rw [zc_up_n (by omega)]; exact q3⟩)))
            · refine g_iload hG dX0_longestChain_58 4 rfl ?_
              refine g_istore_n (lv' := [(0, .ref (q 0)), (1, .int (nI a)), (2, .int (nI (1 + c))), (3, .int (nI i)), (4, .int (nI (1 + c)))]) hG dX0_longestChain_60 rfl (by decide) [1, 2, 0, 3, 4] rfl ?_
              refine g_iinc (v := nI (i + 1)) (lv' := [(0, .ref (q 0)), (1, .int (nI a)), (2, .int (nI (1 + c))), (3, .int (nI (i + 1))), (4, .int (nI (1 + c)))]) hG dX0_longestChain_61 3 rfl (nI_add _ _) (by decide) [1, 2, 3, 0, 4] rfl ?_
              refine g_goto (tgt := 14) hG dX0_longestChain_64 (by decide) ?_
              exact g_sub (lv' := [(0, .ref (q 0)), (1, .int (nI a)), (2, .int (nI (1 + c))), (3, .int (nI (i + 1)))]) hG [0, 1, 2, 3] (rfl) (ih (i + 1) (1 + c) (zc_up f i (1 + c)) (zl_le hT) (by omega) (by omega) (zl_up (P := fun j x => zl_T (s 0 0) (s 1) a j x) hI hT) (zl_up (P := fun j x => x ≤ 1 + c) (fun j hj => by have := hJ j hj; omega) (Nat.le_refl _)) (Or.inr ⟨i, by omega, h2, zc_up_s _ _ _⟩))
    refine g_eqs (s' := zc_ar s 9 (s 9)) (zc_ar_self s 9).symm ?_
    refine g_iconst (v := nI 0) hG dX0_longestChain_10 rfl ?_
    refine g_istore_n (lv' := [(0, .ref (q 0)), (1, .int (nI a)), (2, .int (nI 0))]) hG dX0_longestChain_11 rfl (by decide) [1, 2, 0] rfl ?_
    refine g_iconst (v := nI 0) hG dX0_longestChain_12 rfl ?_
    refine g_istore_n (lv' := [(0, .ref (q 0)), (1, .int (nI a)), (2, .int (nI 0)), (3, .int (nI 0))]) hG dX0_longestChain_13 rfl (by decide) [1, 2, 3, 0] rfl ?_
    exact lp (s 0 0 + 1) 0 0 (s 9) (by omega) (by omega) (by omega) (fun _ h => absurd h (Nat.not_lt_zero _)) (fun _ h => absurd h (Nat.not_lt_zero _)) (Or.inl rfl)
  · refine g_iconst (v := -1) hG dX0_longestChain_8 rfl ?_
    exact g_iret hG rfl (rfl) dX0_longestChain_9 (⟨s 9, (zc_ar_self s 9).symm, Or.inl ⟨h1, rfl⟩⟩)
end
section
/-! matchings: up u = v + 1 (0: none), dn v = u + 1; plain laws of the search, of covers by chains and of largest antichains -/
def zk_Mt (n : Nat) (ov : Nat → Nat) (A : Nat) (up dn : Nat → Nat) : Prop := (∀ u, u < n → ∀ v, up u = v + 1 → v < n ∧ A.testBit u = true ∧ A.testBit v = true ∧ (ov u).testBit v = true ∧ dn v = u + 1) ∧ ∀ v, v < n → ∀ u, dn v = u + 1 → u < n ∧ up u = v + 1
/-- what is come to from the elements S stays among their partners -/
def zk_Cl (n : Nat) (ov : Nat → Nat) (A : Nat) (dn : Nat → Nat) (S : Nat → Prop) : Prop := ∀ u, u < n → S u → ∀ v, v < n → A.testBit v = true → (ov u).testBit v = true → ∃ w, w < n ∧ S w ∧ dn v = w + 1
theorem zk_Mt.le {n : Nat} {ov : Nat → Nat} {A : Nat} {up dn : Nat → Nat} (h : zk_Mt n ov A up dn) {j : Nat} (hj : j < n) : up j ≤ n ∧ dn j ≤ n := by
  constructor
  · cases e : up j with
    | zero => exact Nat.zero_le _
    | succ v => have := (h.1 j hj v e).1; omega
  · cases e : dn j with
    | zero => exact Nat.zero_le _
    | succ v => have := (h.2 j hj v e).1; omega
def zk_Qd (n : Nat) (ov : Nat → Nat) (A : Nat) (up0 cf f : Nat → Nat) (e start : Nat) : Prop := (∀ i, i < e → f i < n ∧ A.testBit (f i) = true) ∧ (∀ i j, i < e → j < e → f i = f j → i = j) ∧ f 0 = start ∧ 0 < e ∧ ∀ j, 0 < j → j < e → ∃ v, up0 (f j) = v + 1 ∧ v < n ∧ A.testBit v = true ∧ ∃ i, i < j ∧ cf v = f i ∧ (ov (f i)).testBit v = true
def zk_TI (n : Nat) (ov : Nat → Nat) (A : Nat) (up0 dn0 cf f : Nat → Nat) (start r : Nat) (up dn : Nat → Nat) (v : Nat) : Prop := zk_Mt n ov A up (zc_up dn v 0) ∧ v < n ∧ A.testBit v = true ∧ (∃ i, i < r ∧ cf v = f i ∧ (ov (f i)).testBit v = true) ∧ (∀ j, 0 < j → j < r → up (f j) = up0 (f j)) ∧ (∀ u, u < n → (up u = 0 ↔ up0 u = 0)) ∧ ∀ S : Nat → Prop, zk_Cl n ov A dn0 S → ¬ S start → (∀ x, x < n → S x → up x = up0 x) ∧ ∀ x, x < n → S x → ¬ (ov x).testBit v = true
def zk_TF (n : Nat) (ov : Nat → Nat) (A : Nat) (up0 dn0 : Nat → Nat) (start : Nat) (up dn : Nat → Nat) : Prop := zk_Mt n ov A up dn ∧ (∀ x, x < n → (up x = 0 ↔ up0 x = 0 ∧ x ≠ start)) ∧ ∀ S : Nat → Prop, zk_Cl n ov A dn0 S → ¬ S start → zk_Cl n ov A dn S
theorem zk_TI_0 {n : Nat} {ov : Nat → Nat} {A : Nat} {up0 dn0 cf f : Nat → Nat} {start e v i : Nat} (hM : zk_Mt n ov A up0 dn0) (hv : v < n) (hA : A.testBit v = true) (hd : dn0 v = 0) (hi : i < e) (hc : cf v = f i) (hE : (ov (f i)).testBit v = true) : zk_TI n ov A up0 dn0 cf f start e up0 dn0 v := by
  have e1 : zc_up dn0 v 0 = dn0 := by
    funext j
    by_cases q : j = v
    · subst q; rw [zc_up_s, hd]
    · rw [zc_up_n q]
  refine ⟨by rw [e1]; exact hM, hv, hA, ⟨i, hi, hc, hE⟩, fun _ _ _ => rfl, fun _ _ => Iff.rfl, fun S hS _ => ⟨fun _ _ _ => rfl, fun x hx hSx hb => ?_⟩⟩
  obtain ⟨w, -, -, h3⟩ := hS x hx hSx v hv hA hb
  omega
theorem zk_TI_last {n : Nat} {ov : Nat → Nat} {A : Nat} {up0 dn0 cf f : Nat → Nat} {start e r v : Nat} {up dn : Nat → Nat} (hM0 : zk_Mt n ov A up0 dn0) (hQ : zk_Qd n ov A up0 cf f e start) (h0 : up0 start = 0) (h : zk_TI n ov A up0 dn0 cf f start r up dn v) (hs : cf v = start) : zk_TF n ov A up0 dn0 start (zc_up up start (v + 1)) (zc_up dn v (start + 1)) := by
  obtain ⟨hM, hv, hA, ⟨i, hi, hc, hE⟩, hU, hD, hC⟩ := h
  obtain ⟨q1, q2, q3, q4, q5⟩ := hQ
  have hst := q1 0 q4
  rw [q3] at hst
  rw [← hc, hs] at hE
  have hup : up start = 0 := (hD start hst.1).mpr h0
  refine ⟨⟨fun x hx y hy => ?_, fun y hy x hx => ?_⟩, fun x hx => ?_, fun S hS hn x hx hSx y hy hAy hb => ?_⟩
  · by_cases e1 : x = start
    · subst e1
      rw [zc_up_s] at hy
      obtain rfl : y = v := by omega
      exact ⟨hv, hst.2, hA, hE, zc_up_s _ _ _⟩
    · rw [zc_up_n e1] at hy
      obtain ⟨g1, g2, g3, g4, g5⟩ := hM.1 x hx y hy
      have e2 : y ≠ v := by
        rintro rfl
        rw [zc_up_s] at g5
        omega
      rw [zc_up_n e2] at g5
      exact ⟨g1, g2, g3, g4, by rw [zc_up_n e2]; exact g5⟩
  · by_cases e1 : y = v
    · subst e1
      rw [zc_up_s] at hx
      obtain rfl : x = start := by omega
      exact ⟨hst.1, zc_up_s _ _ _⟩
    · rw [zc_up_n e1] at hx
      obtain ⟨g1, g2⟩ := hM.2 y hy x (by rw [zc_up_n e1]; exact hx)
      have e2 : x ≠ start := by
        rintro rfl
        omega
      exact ⟨g1, by rw [zc_up_n e2]; exact g2⟩
  · by_cases e1 : x = start
    · subst e1
      rw [zc_up_s]
      constructor
      · intro z; omega
      · intro z; exact absurd rfl z.2
    · rw [zc_up_n e1, hD x hx]
      exact ⟨fun z => ⟨z, e1⟩, fun z => z.1⟩
  · obtain ⟨c1, c2⟩ := hC S hS hn
    have e1 : y ≠ v := by
      rintro rfl
      exact c2 x hx hSx hb
    obtain ⟨w, w1, w2, w3⟩ := hS x hx hSx y hy hAy hb
    have g := (hM0.2 y hy w w3).2
    rw [← c1 w w1 w2] at g
    have g2 := (hM.1 w w1 y g).2.2.2.2
    rw [zc_up_n e1] at g2
    exact ⟨w, w1, w2, by rw [zc_up_n e1]; exact g2⟩
theorem zk_TI_step {n : Nat} {ov : Nat → Nat} {A : Nat} {up0 dn0 cf f : Nat → Nat} {start e r v : Nat} {up dn : Nat → Nat} (hr : r ≤ e) (hM0 : zk_Mt n ov A up0 dn0) (hQ : zk_Qd n ov A up0 cf f e start) (h : zk_TI n ov A up0 dn0 cf f start r up dn v) (hs : ¬ cf v = start) : ∃ i v', i < r ∧ up (cf v) = v' + 1 ∧ v' < n ∧ zk_TI n ov A up0 dn0 cf f start i (zc_up up (cf v) (v + 1)) (zc_up dn v (cf v + 1)) v' := by
  obtain ⟨hM, hv, hA, ⟨i, hi, hc, hE⟩, hU, hD, hC⟩ := h
  obtain ⟨q1, q2, q3, q4, q5⟩ := hQ
  have hi0 : 0 < i := by
    apply Nat.pos_of_ne_zero
    rintro rfl
    exact hs (hc.trans q3)
  obtain ⟨v', g1, g2, g3, i', g4, g5, g6⟩ := q5 i hi0 (by omega)
  have hui := hU i hi0 hi
  obtain ⟨hun, hua⟩ := q1 i (by omega)
  rw [← hc] at hE hui g1 hun hua
  generalize cf v = u at hs hc hE hui g1 hun hua
  have hup : up u = v' + 1 := by rw [hui]; exact g1
  obtain ⟨-, -, -, k4, k5⟩ := hM.1 u hun v' hup
  have hvv : v' ≠ v := by
    rintro rfl
    rw [zc_up_s] at k5
    omega
  rw [zc_up_n hvv] at k5
  refine ⟨i, v', hi, hup, g2, ⟨fun x hx y hy => ?_, fun y hy x hx => ?_⟩, g2, g3, ⟨i', g4, g5, g6⟩, fun j j1 j2 => ?_, fun x hx => ?_, fun S hS hn => ?_⟩
  · by_cases e1 : x = u
    · subst e1
      rw [zc_up_s] at hy
      obtain rfl : y = v := by omega
      exact ⟨hv, hua, hA, hE, by rw [zc_up_n (fun z => hvv z.symm), zc_up_s]⟩
    · rw [zc_up_n e1] at hy
      obtain ⟨r1, r2, r3, r4, r5⟩ := hM.1 x hx y hy
      have e2 : y ≠ v := by
        rintro rfl
        rw [zc_up_s] at r5
        omega
      rw [zc_up_n e2] at r5
      have e3 : y ≠ v' := by
        rintro rfl
        omega
      exact ⟨r1, r2, r3, r4, by rw [zc_up_n e3, zc_up_n e2]; exact r5⟩
  · have e3 : y ≠ v' := by
      rintro rfl
      rw [zc_up_s] at hx
      omega
    rw [zc_up_n e3] at hx
    by_cases e1 : y = v
    · subst e1
      rw [zc_up_s] at hx
      obtain rfl : x = u := by omega
      exact ⟨hun, zc_up_s _ _ _⟩
    · rw [zc_up_n e1] at hx
      obtain ⟨r1, r2⟩ := hM.2 y hy x (by rw [zc_up_n e1]; exact hx)
      have e2 : x ≠ u := by
        rintro rfl
        omega
      exact ⟨r1, by rw [zc_up_n e2]; exact r2⟩
  · have e1 : f j ≠ u := by
      intro z
      have := q2 j i (by omega) (by omega) (z.trans hc)
      omega
    rw [zc_up_n e1]
    exact hU j j1 (by omega)
  · by_cases e1 : x = u
    · subst e1
      rw [zc_up_s]
      constructor
      · intro z; omega
      · intro z; omega
    · rw [zc_up_n e1]
      exact hD x hx
  · obtain ⟨c1, c2⟩ := hC S hS hn
    have hSu : ¬ S u := fun z => c2 u hun z hE
    refine ⟨fun x hx hSx => ?_, fun x hx hSx hb => ?_⟩
    · have e1 : x ≠ u := by
        rintro rfl
        exact hSu hSx
      rw [zc_up_n e1]
      exact c1 x hx hSx
    · obtain ⟨w, w1, w2, w3⟩ := hS x hx hSx v' g2 g3 hb
      have := (hM0.1 u hun v' g1).2.2.2.2
      obtain rfl : w = u := by omega
      exact hSu w2
/-! the broad search -/
def zk_B (n : Nat) (ov : Nat → Nat) (A : Nat) (up dn : Nat → Nat) (start : Nat) (f g : Nat → Nat) (en se t : Nat) : Prop := zk_Qd n ov A up g f en start ∧ en ≤ n ∧ (∀ j, 0 < j → j < en → ∃ v, up (f j) = v + 1 ∧ se.testBit v = true) ∧ (∀ v, se.testBit v = true → v < n ∧ ∃ j, j < en ∧ dn v = f j + 1) ∧ ∀ i, i < t → ∀ v, v < n → A.testBit v = true → (ov (f i)).testBit v = true → se.testBit v = true
def zk_C (n : Nat) (ov : Nat → Nat) (A u se v : Nat) : Prop := ∀ y, y < v → y < n → A.testBit y = true → (ov u).testBit y = true → se.testBit y = true
def zk_im (f : Nat → Nat) : Nat → Nat
  | 0 => 0
  | m + 1 => zk_im f m ||| 2 ^ f m
theorem zk_im_bit (f : Nat → Nat) (m b : Nat) : (zk_im f m).testBit b = true ↔ ∃ i, i < m ∧ f i = b := by
  induction m with
  | zero =>
    rw [zk_im, zb_0_iff]
    exact ⟨False.elim, fun ⟨i, h, _⟩ => absurd h (Nat.not_lt_zero _)⟩
  | succ m ih =>
    rw [zk_im, zb_or_iff, zb_pw_iff, ih]
    constructor
    · rintro (⟨i, h1, h2⟩ | rfl)
      · exact ⟨i, by omega, h2⟩
      · exact ⟨m, by omega, rfl⟩
    · rintro ⟨i, h1, h2⟩
      by_cases e : i = m
      · subst e; exact Or.inr h2.symm
      · exact Or.inl ⟨i, by omega, h2⟩
theorem zk_pig {f : Nat → Nat} {m n : Nat} (hn : n ≤ 10) (h1 : ∀ i, i < m → f i < n) (h2 : ∀ i j, i < m → j < m → f i = f j → i = j) : m ≤ n := by
  have h3 : ∀ k, k ≤ m → zb_cnt (zk_im f k) 10 = k := by
    intro k
    induction k with
    | zero => intro _; exact zb_cnt_0 _
    | succ k ih =>
      intro hk
      have hf := h1 k (by omega)
      rw [zk_im, zb_cnt_or (zb_and_pow.mpr ?_), ih (by omega), zb_cnt_pow (by omega)]
      intro hb
      obtain ⟨i, i1, i2⟩ := (zk_im_bit f k (f k)).mp hb
      have := h2 i k (by omega) (by omega) i2
      omega
  have h4 := h3 m (Nat.le_refl _)
  have h5 : zp_sub (zk_im f m) (2 ^ n - 1) := by
    intro b hb
    obtain ⟨i, i1, i2⟩ := (zk_im_bit f m b).mp hb
    rw [zb_full_iff, ← i2]
    exact h1 i i1
  have h6 := zb_cnt_mono h5 10
  rw [zb_cnt_full hn] at h6
  omega
theorem zk_B_0 {n : Nat} {ov : Nat → Nat} {A : Nat} {up dn : Nat → Nat} {start : Nat} {f g : Nat → Nat} (hs : start < n) (hA : A.testBit start = true) : zk_B n ov A up dn start (zc_up f 0 start) g 1 0 0 := by
  refine ⟨⟨fun i hi => ?_, fun i j hi hj _ => by omega, zc_up_s _ _ _, by decide, fun j h1 h2 => by omega⟩, by omega, fun j h1 h2 => by omega, fun v hv => ?_, fun i hi => by omega⟩
  · obtain rfl : i = 0 := by omega
    rw [zc_up_s]
    exact ⟨hs, hA⟩
  · rw [zb_0_iff] at hv
    exact hv.elim
theorem zk_B_next {n : Nat} {ov : Nat → Nat} {A : Nat} {up dn : Nat → Nat} {start : Nat} {f g : Nat → Nat} {en se t : Nat} (h : zk_B n ov A up dn start f g en se t) (hC : zk_C n ov A (f t) se n) : zk_B n ov A up dn start f g en se (t + 1) := by
  obtain ⟨h1, h2, h3, h4, h5⟩ := h
  refine ⟨h1, h2, h3, h4, fun i hi => ?_⟩
  by_cases e : i = t
  · subst e; exact fun v hv => hC v hv hv
  · exact h5 i (by omega)
theorem zk_B_end {n : Nat} {ov : Nat → Nat} {A : Nat} {up dn : Nat → Nat} {start : Nat} {f g : Nat → Nat} {en se t : Nat} (h : zk_B n ov A up dn start f g en se t) (ht : en ≤ t) : ∃ S : Nat → Prop, S start ∧ (∀ u, S u → u < n ∧ (u = start ∨ ¬ up u = 0)) ∧ zk_Cl n ov A dn S := by
  obtain ⟨⟨q1, q2, q3, q4, q5⟩, h2, h3, h4, h5⟩ := h
  refine ⟨fun u => ∃ i, i < en ∧ f i = u, ⟨0, q4, q3⟩, ?_, ?_⟩
  · rintro u ⟨i, i1, rfl⟩
    refine ⟨(q1 i i1).1, ?_⟩
    by_cases e : i = 0
    · subst e; exact Or.inl q3
    · obtain ⟨v, hv, -⟩ := h3 i (by omega) i1
      right; omega
  · rintro u hu ⟨i, i1, rfl⟩ v hv hA hb
    obtain ⟨-, j, j1, j2⟩ := h4 v (h5 i (by omega) v hv hA hb)
    exact ⟨f j, (q1 j j1).1, ⟨j, j1, rfl⟩, j2⟩
/-- the mark of a new upper end keeps what was known -/
theorem zk_Qd_g {n : Nat} {ov : Nat → Nat} {A : Nat} {up dn : Nat → Nat} {start : Nat} {f g : Nat → Nat} {en se t v u : Nat} (h : zk_B n ov A up dn start f g en se t) (hv : ¬ se.testBit v = true) : zk_Qd n ov A up (zc_up g v u) f en start := by
  obtain ⟨⟨q1, q2, q3, q4, q5⟩, h2, h3, h4, h5⟩ := h
  refine ⟨q1, q2, q3, q4, fun j j1 j2 => ?_⟩
  obtain ⟨y, y1, y2, y3, i, i1, i2, i3⟩ := q5 j j1 j2
  obtain ⟨y', z1, z2⟩ := h3 j j1 j2
  obtain rfl : y = y' := by omega
  refine ⟨y, y1, y2, y3, i, i1, ?_, i3⟩
  have e1 : y ≠ v := by
    rintro rfl
    exact hv z2
  rw [zc_up_n e1]
  exact i2
theorem zk_B_add {n : Nat} {ov : Nat → Nat} {A : Nat} {up dn : Nat → Nat} {start : Nat} {f g : Nat → Nat} {en se t v w : Nat} (hn : n ≤ 10) (hM : zk_Mt n ov A up dn) (h0 : up start = 0) (h : zk_B n ov A up dn start f g en se t) (ht : t < en) (hvn : v < n) (hA : A.testBit v = true) (hE : (ov (f t)).testBit v = true) (hv : ¬ se.testBit v = true) (hd : dn v = w + 1) : zk_B n ov A up dn start (zc_up f en w) (zc_up g v (f t)) (en + 1) (se ||| 2 ^ v) t := by
  have hQ := zk_Qd_g (u := f t) h hv
  obtain ⟨-, h2, h3, h4, h5⟩ := h
  obtain ⟨q1, q2, q3, q4, q5⟩ := hQ
  obtain ⟨w1, w2⟩ := hM.2 v hvn w hd
  have w3 := (hM.1 w w1 v w2).2.1
  have old : ∀ i, i < en → zc_up f en w i = f i := fun i hi => zc_up_n (by omega)
  have new : ∀ i, i < en → f i ≠ w := by
    intro i hi z
    by_cases e : i = 0
    · subst e; rw [q3] at z; subst z; omega
    · obtain ⟨y, y1, y2⟩ := h3 i (by omega) hi
      rw [z] at y1
      obtain rfl : y = v := by omega
      exact hv y2
  have g1 : ∀ i, i < en + 1 → zc_up f en w i < n ∧ A.testBit (zc_up f en w i) = true := by
    intro i hi
    by_cases e : i = en
    · subst e; rw [zc_up_s]; exact ⟨w1, w3⟩
    · rw [old i (by omega)]; exact q1 i (by omega)
  have g2 : ∀ i j, i < en + 1 → j < en + 1 → zc_up f en w i = zc_up f en w j → i = j := by
    intro i j hi hj
    by_cases e1 : i = en
    · by_cases e2 : j = en
      · omega
      · subst e1
        rw [zc_up_s, old j (by omega)]
        exact fun z => absurd z.symm (new j (by omega))
    · by_cases e2 : j = en
      · subst e2
        rw [zc_up_s, old i (by omega)]
        exact fun z => absurd z (new i (by omega))
      · rw [old i (by omega), old j (by omega)]
        exact q2 i j (by omega) (by omega)
  refine ⟨⟨g1, g2, ?_, by omega, fun j j1 j2 => ?_⟩, zk_pig hn (fun i hi => (g1 i hi).1) g2, fun j j1 j2 => ?_, fun y hy => ?_, fun i hi y hy hAy hb => ?_⟩
  · rw [old 0 q4]; exact q3
  · by_cases e : j = en
    · subst e
      rw [zc_up_s]
      exact ⟨v, w2, hvn, hA, t, ht, by rw [zc_up_s, old t ht], by rw [old t ht]; exact hE⟩
    · rw [old j (by omega)]
      obtain ⟨y, y1, y2, y3, i, i1, i2, i3⟩ := q5 j j1 (by omega)
      exact ⟨y, y1, y2, y3, i, i1, by rw [old i (by omega)]; exact i2, by rw [old i (by omega)]; exact i3⟩
  · by_cases e : j = en
    · subst e
      rw [zc_up_s]
      exact ⟨v, w2, (zb_or_iff _ _ _).mpr (Or.inr ((zb_pw_iff v v).mpr rfl))⟩
    · rw [old j (by omega)]
      obtain ⟨y, y1, y2⟩ := h3 j j1 (by omega)
      exact ⟨y, y1, (zb_or_iff _ _ _).mpr (Or.inl y2)⟩
  · rw [zb_or_iff, zb_pw_iff] at hy
    rcases hy with hy | rfl
    · obtain ⟨y1, j, j1, j2⟩ := h4 y hy
      exact ⟨y1, j, by omega, by rw [old j j1]; exact j2⟩
    · exact ⟨hvn, en, by omega, by rw [zc_up_s]; exact hd⟩
  · rw [old i (by omega)] at hb
    exact (zb_or_iff _ _ _).mpr (Or.inl (h5 i hi y hy hAy hb))
theorem zk_C_0 {n : Nat} {ov : Nat → Nat} {A u se : Nat} (hlt : ∀ y, (ov u).testBit y = true → u < y) : zk_C n ov A u se (u + 1) := by
  intro y h1 h2 h3 h4
  have := hlt y h4
  omega
theorem zk_C_brk {n : Nat} {ov : Nat → Nat} {A u se v : Nat} (h : zk_C n ov A u se v) (hz : zb_dif (ov u &&& A) se >>> v = 0) : zk_C n ov A u se n := by
  intro y h1 h2 h3 h4
  by_cases e : y < v
  · exact h y e h2 h3 h4
  · apply Classical.byContradiction
    intro hs
    have hb : (zb_dif (ov u &&& A) se).testBit y = true := by
      rw [zb_dif_iff, zb_and_iff]
      exact ⟨⟨h4, h3⟩, hs⟩
    have hb2 : (zb_dif (ov u &&& A) se >>> v).testBit (y - v) = true := by
      rw [Nat.testBit_shiftRight, show v + (y - v) = y by omega]
      exact hb
    rw [hz, zb_0_iff] at hb2
    exact hb2
theorem zk_C_skip {n : Nat} {ov : Nat → Nat} {A u se v : Nat} (h : zk_C n ov A u se v) (hz : zb_dif (ov u &&& A) se &&& 2 ^ v = 0) : zk_C n ov A u se (v + 1) := by
  intro y h1 h2 h3 h4
  by_cases e : y = v
  · subst e
    apply Classical.byContradiction
    intro hs
    apply zb_and_pow.mp hz
    rw [zb_dif_iff, zb_and_iff]
    exact ⟨⟨h4, h3⟩, hs⟩
  · exact h y (by omega) h2 h3 h4
theorem zk_C_add {n : Nat} {ov : Nat → Nat} {A u se v : Nat} (h : zk_C n ov A u se v) : zk_C n ov A u (se ||| 2 ^ v) (v + 1) := by
  intro y h1 h2 h3 h4
  rw [zb_or_iff, zb_pw_iff]
  by_cases e : y = v
  · exact Or.inr e
  · exact Or.inl (h y (by omega) h2 h3 h4)
end
section
/-! covers by chains out of a matching; antichains as large; what lies lowest and highest: plain laws -/
noncomputable def zk_pb (P : Prop) : Bool := @decide P (Classical.propDecidable P)
theorem zk_pb_iff {P : Prop} : zk_pb P = true ↔ P := by
  unfold zk_pb
  exact @decide_eq_true_iff P (Classical.propDecidable P)
/-- the set of those below n with P -/
noncomputable def zk_set (n : Nat) (P : Nat → Prop) : Nat := zb_mk (fun i => zk_pb (P i)) n
theorem zk_set_bit (n : Nat) (P : Nat → Prop) (i : Nat) : (zk_set n P).testBit i = true ↔ i < n ∧ P i := by
  rw [zk_set, zb_mk_bit, Bool.and_eq_true, decide_eq_true_iff, zk_pb_iff]
def zk_c (up : Nat → Nat) : Nat → Nat
  | 0 => 0
  | k + 1 => if up k = 0 then zk_c up k else zk_c up k + 1
def zk_t (A : Nat) (up : Nat → Nat) : Nat → Nat
  | 0 => 0
  | k + 1 => if A.testBit k = true ∧ up k = 0 then zk_t A up k + 1 else zk_t A up k
theorem zk_t_le (A : Nat) (up : Nat → Nat) (k : Nat) : zk_t A up k ≤ k := by
  induction k with
  | zero => exact Nat.le_refl _
  | succ k ih =>
    rw [zk_t]
    by_cases h : A.testBit k = true ∧ up k = 0
    · rw [if_pos h]; omega
    · rw [if_neg h]; omega
theorem zk_ct {A : Nat} {up : Nat → Nat} {n : Nat} (h : ∀ u, u < n → up u ≠ 0 → A.testBit u = true) : ∀ k, k ≤ n → zb_cnt A k = zk_c up k + zk_t A up k := by
  intro k
  induction k with
  | zero => intro _; rfl
  | succ k ih =>
    intro hk
    rw [zb_cnt, zk_c, zk_t, ih (by omega)]
    by_cases e : up k = 0
    · rw [if_pos e]
      cases hb : A.testBit k
      · rw [if_neg (fun z => Bool.noConfusion z.1)]; simp
      · rw [if_pos ⟨rfl, e⟩]; simp; omega
    · rw [if_neg e, if_neg (fun z => e z.2), h k (by omega) e]; simp; omega
theorem zb_cnt_n {A n : Nat} (h : A < 2 ^ n) : ∀ k, zb_cnt A (n + k) = zb_cnt A n := by
  intro k
  induction k with
  | zero => rfl
  | succ k ih =>
    rw [← Nat.add_assoc, zb_cnt, ih]
    have : A.testBit (n + k) = false := by
      cases hb : A.testBit (n + k)
      · rfl
      · have := zb_bit_lt h hb
        omega
    rw [this]; rfl
theorem zb_cnt_10 {A n : Nat} (h : A < 2 ^ n) (hn : n ≤ 10) : zb_cnt A 10 = zb_cnt A n := by
  have := zb_cnt_n h (10 - n)
  rw [show n + (10 - n) = 10 by omega] at this
  exact this
/-- the order and its dual table -/
def zp_Ov (n : Nat) (un ov : Nat → Nat) : Prop := ∀ u, u < n → ov u < 2 ^ n ∧ ∀ v, v < n → ((ov u).testBit v = true ↔ (un v).testBit u = true)
theorem zp_Ov.lt {n : Nat} {un ov : Nat → Nat} (hP : zp_Po n un) (hO : zp_Ov n un ov) {u v : Nat} (hu : u < n) (hb : (ov u).testBit v = true) : v < n ∧ u < v ∧ (un v).testBit u = true := by
  have hv := zb_bit_lt (hO u hu).1 hb
  have := ((hO u hu).2 v hv).mp hb
  exact ⟨hv, hP.lt hv this, this⟩
/-- the top of the chain of v -/
def zk_tp (up : Nat → Nat) : Nat → Nat → Nat
  | 0, v => v
  | d + 1, v => if up v = 0 then v else zk_tp up d (up v - 1)
section
variable {n : Nat} {un ov : Nat → Nat} {A : Nat} {up dn : Nat → Nat}
theorem zk_edge (hP : zp_Po n un) (hO : zp_Ov n un ov) (hM : zk_Mt n ov A up dn) {u v : Nat} (hu : u < n) (h : up u = v + 1) : v < n ∧ u < v ∧ (un v).testBit u = true ∧ A.testBit u = true ∧ A.testBit v = true ∧ dn v = u + 1 := by
  obtain ⟨h1, h2, h3, h4, h5⟩ := hM.1 u hu v h
  obtain ⟨g1, g2, g3⟩ := hO.lt hP hu h4
  exact ⟨h1, g2, g3, h2, h3, h5⟩
theorem zk_tp_st (hP : zp_Po n un) (hO : zp_Ov n un ov) (hM : zk_Mt n ov A up dn) : ∀ d v, v < n → n - v ≤ d → zk_tp up (d + 1) v = zk_tp up d v := by
  intro d
  induction d with
  | zero => intro v h1 h2; omega
  | succ d ih =>
    intro v h1 h2
    rw [zk_tp]
    conv => rhs; rw [zk_tp]
    by_cases e : up v = 0
    · rw [if_pos e, if_pos e]
    · rw [if_neg e, if_neg e]
      obtain ⟨g1, g2, -⟩ := zk_edge hP hO hM h1 (v := up v - 1) (by omega)
      exact ih _ g1 (by omega)
theorem zk_tp_step (hP : zp_Po n un) (hO : zp_Ov n un ov) (hM : zk_Mt n ov A up dn) {u v : Nat} (hu : u < n) (h : up u = v + 1) : zk_tp up n u = zk_tp up n v := by
  obtain ⟨g1, g2, -⟩ := zk_edge hP hO hM hu h
  obtain ⟨m, rfl⟩ : ∃ m, n = m + 1 := ⟨n - 1, by omega⟩
  rw [zk_tp, if_neg (by omega), h, show v + 1 - 1 = v by omega]
  exact (zk_tp_st hP hO hM m v g1 (by omega)).symm
theorem zk_tp_0 {v : Nat} (h : up v = 0) (d : Nat) : zk_tp up d v = v := by
  cases d with
  | zero => rfl
  | succ d => rw [zk_tp, if_pos h]
theorem zk_tp_top (hP : zp_Po n un) (hO : zp_Ov n un ov) (hM : zk_Mt n ov A up dn) : ∀ d v, v < n → n - v ≤ d → up (zk_tp up d v) = 0 ∧ zk_tp up d v < n ∧ v ≤ zk_tp up d v ∧ (A.testBit v = true → A.testBit (zk_tp up d v) = true) := by
  intro d
  induction d with
  | zero => intro v h1 h2; omega
  | succ d ih =>
    intro v h1 h2
    rw [zk_tp]
    by_cases e : up v = 0
    · rw [if_pos e]
      exact ⟨e, h1, Nat.le_refl _, id⟩
    · rw [if_neg e]
      obtain ⟨g1, g2, -, -, g5, -⟩ := zk_edge hP hO hM h1 (v := up v - 1) (by omega)
      obtain ⟨k1, k2, k3, k4⟩ := ih _ g1 (by omega)
      exact ⟨k1, k2, by omega, fun _ => k4 g5⟩
theorem zk_line (hP : zp_Po n un) (hO : zp_Ov n un ov) (hM : zk_Mt n ov A up dn) : ∀ d u v, n - u ≤ d → u < v → v < n → zk_tp up n u = zk_tp up n v → ∃ x, dn v = x + 1 ∧ u ≤ x ∧ (u = x ∨ (un x).testBit u = true) := by
  intro d
  induction d with
  | zero => intro u v h1 h2 h3; omega
  | succ d ih =>
    intro u v h1 h2 h3 h4
    cases e : up u with
    | zero =>
      rw [zk_tp_0 e] at h4
      have := (zk_tp_top hP hO hM n v h3 (by omega)).2.2.1
      omega
    | succ u' =>
      obtain ⟨g1, g2, g3, g4, g5, g6⟩ := zk_edge hP hO hM (by omega) e
      have hs := zk_tp_step hP hO hM (by omega) e
      rcases Nat.lt_trichotomy u' v with q | q | q
      · obtain ⟨x, x1, x2, x3⟩ := ih u' v (by omega) q h3 (by rw [← hs]; exact h4)
        have hxv := hM.2 v h3 x x1
        refine ⟨x, x1, by omega, Or.inr ?_⟩
        rcases x3 with rfl | x3
        · exact g3
        · exact hP.2 x hxv.1 u' x3 u g3
      · subst q
        exact ⟨u, g6, Nat.le_refl _, Or.inl rfl⟩
      · obtain ⟨x, x1, x2, x3⟩ := ih v u' (by omega) q g1 (by rw [← hs]; exact h4.symm)
        omega
theorem zk_fib (hP : zp_Po n un) (hO : zp_Ov n un ov) (hM : zk_Mt n ov A up dn) {u v : Nat} (huv : u < v) (hv : v < n) (h : zk_tp up n u = zk_tp up n v) : (un v).testBit u = true := by
  obtain ⟨x, x1, x2, x3⟩ := zk_line hP hO hM n u v (by omega) huv hv h
  obtain ⟨y1, y2⟩ := hM.2 v hv x x1
  obtain ⟨-, -, z, -⟩ := zk_edge hP hO hM y1 y2
  rcases x3 with rfl | x3
  · exact z
  · exact hP.2 v hv x z u x3
/-- a matching gives a cover by as many chains as it has tops -/
theorem zk_cov (hP : zp_Po n un) (hO : zp_Ov n un ov) (hM : zk_Mt n ov A up dn) (hA : A < 2 ^ n) : zp_Cov n un (zk_t A up n) A := by
  have key : ∀ j, j ≤ n → zp_Cov n un (zk_t A up j) (zk_set n (fun v => A.testBit v = true ∧ zk_tp up n v < j)) := by
    intro j
    induction j with
    | zero =>
      intro _
      show zk_set n _ = 0
      apply zb_ext
      intro i
      rw [zk_set_bit, zb_0_iff]
      exact ⟨fun z => absurd z.2.2 (Nat.not_lt_zero _), False.elim⟩
    | succ j ih =>
      intro hj
      rw [zk_t]
      by_cases e : A.testBit j = true ∧ up j = 0
      · rw [if_pos e]
        refine ⟨zk_set n (fun v => A.testBit v = true ∧ zk_tp up n v = j), zk_set n (fun v => A.testBit v = true ∧ zk_tp up n v < j), ?_, ?_, ?_, ?_, ih (by omega)⟩
        · intro z
          have : (zk_set n (fun v => A.testBit v = true ∧ zk_tp up n v = j)).testBit j = true := (zk_set_bit _ _ _).mpr ⟨by omega, e.1, zk_tp_0 e.2 n⟩
          rw [z, zb_0_iff] at this
          exact this
        · apply zb_disj'
          intro i h1 h2
          have h1 := (zk_set_bit _ _ _).mp h1
          have h2 := (zk_set_bit _ _ _).mp h2
          omega
        · apply zb_ext
          intro i
          rw [zb_or_iff, zk_set_bit, zk_set_bit, zk_set_bit]
          constructor
          · rintro (⟨a1, a2, a3⟩ | ⟨a1, a2, a3⟩)
            · exact ⟨a1, a2, by omega⟩
            · exact ⟨a1, a2, by omega⟩
          · rintro ⟨a1, a2, a3⟩
            by_cases q : zk_tp up n i = j
            · exact Or.inl ⟨a1, a2, q⟩
            · exact Or.inr ⟨a1, a2, by omega⟩
        · intro v hv u hu h1 h2
          have h1 := (zk_set_bit _ _ _).mp h1
          have h2 := (zk_set_bit _ _ _).mp h2
          exact ⟨fun _ => trivial, fun _ => Or.inl (zk_fib hP hO hM hu hv (by rw [h1.2.2, h2.2.2]))⟩
      · rw [if_neg e]
        have : zk_set n (fun v => A.testBit v = true ∧ zk_tp up n v < j + 1) = zk_set n (fun v => A.testBit v = true ∧ zk_tp up n v < j) := by
          apply zb_ext
          intro i
          rw [zk_set_bit, zk_set_bit]
          constructor
          · rintro ⟨a1, a2, a3⟩
            refine ⟨a1, a2, ?_⟩
            have g := zk_tp_top hP hO hM n i a1 (by omega)
            by_cases q : zk_tp up n i = j
            · rw [q] at g
              exact absurd ⟨g.2.2.2 a2, g.1⟩ e
            · omega
          · rintro ⟨a1, a2, a3⟩
            exact ⟨a1, a2, by omega⟩
        rw [this]
        exact ih (by omega)
  have h := key n (Nat.le_refl _)
  have : zk_set n (fun v => A.testBit v = true ∧ zk_tp up n v < n) = A := by
    apply zb_ext
    intro i
    rw [zk_set_bit]
    constructor
    · exact fun z => z.2.1
    · intro z
      have hi := zb_bit_lt hA z
      exact ⟨hi, z, (zk_tp_top hP hO hM n i hi (by omega)).2.1⟩
  rw [this] at h
  exact h
theorem zp_anti_cov : ∀ (k a p : Nat), zp_Cov n un k a → a < 2 ^ n → zp_sub p a → zp_uni n un p False → zb_cnt p 10 ≤ k := by
  intro k
  induction k with
  | zero =>
    intro a p h1 h2 h3 h4
    have h1 : a = 0 := h1
    subst h1
    have := zp_sub_le h3
    rw [show p = 0 by omega, zb_cnt_0]
    exact Nat.le_refl _
  | succ k ih =>
    rintro a p ⟨c, r, h1, h2, rfl, h4, h5⟩ ha h3 hu
    rw [zb_cnt_split p c 10]
    have g1 : zb_cnt (p &&& c) 10 ≤ 1 := by
      apply zb_cnt_one
      intro i j hi hj
      rw [zb_and_iff] at hi hj
      have hin := zb_bit_lt ha (h3 i hi.1)
      have hjn := zb_bit_lt ha (h3 j hj.1)
      rcases Nat.lt_trichotomy i j with q | q | q
      · exact ((hu j hjn i q hi.1 hj.1).mp ((h4 j hjn i q hi.2 hj.2).mpr trivial)).elim
      · exact q
      · exact ((hu i hin j q hj.1 hi.1).mp ((h4 i hin j q hj.2 hi.2).mpr trivial)).elim
    have g2 : zb_cnt (zb_dif p c) 10 ≤ k := by
      apply ih r _ h5 (Nat.lt_of_le_of_lt Nat.right_le_or ha)
      · intro i hi
        rw [zb_dif_iff] at hi
        exact ((zb_or_iff _ _ _).mp (h3 i hi.1)).resolve_left hi.2
      · intro v hv u hu2 b1 b2
        exact hu v hv u hu2 ((zb_dif_iff _ _ _).mp b1).1 ((zb_dif_iff _ _ _).mp b2).1
    omega
theorem zb_surj {T P : Nat} {col : Nat → Nat} (h : ∀ t, T.testBit t = true → ∃ p, p < 10 ∧ P.testBit p = true ∧ col p = t) : ∀ j, zb_cnt T j ≤ zb_cnt (zk_set 10 (fun p => P.testBit p = true ∧ col p < j)) 10 := by
  intro j
  induction j with
  | zero => exact Nat.zero_le _
  | succ j ih =>
    rw [zb_cnt]
    cases hb : T.testBit j
    · refine Nat.le_trans ih (zb_cnt_mono (fun i hi => ?_) 10)
      rw [zk_set_bit] at hi ⊢
      exact ⟨hi.1, hi.2.1, by omega⟩
    · obtain ⟨p, p1, p2, p3⟩ := h j hb
      have hd : zk_set 10 (fun p => P.testBit p = true ∧ col p < j) &&& 2 ^ p = 0 := zb_and_pow.mpr (fun z => by
        rw [zk_set_bit] at z
        omega)
      have h1 := zb_cnt_or hd 10
      rw [zb_cnt_pow p1] at h1
      have h2 : zb_cnt (zk_set 10 (fun p => P.testBit p = true ∧ col p < j) ||| 2 ^ p) 10 ≤ zb_cnt (zk_set 10 (fun p => P.testBit p = true ∧ col p < j + 1)) 10 := by
        apply zb_cnt_mono
        intro i hi
        rw [zb_or_iff, zk_set_bit, zb_pw_iff] at hi
        rw [zk_set_bit]
        rcases hi with hi | rfl
        · exact ⟨hi.1, hi.2.1, by omega⟩
        · exact ⟨p1, p2, by omega⟩
      simp only [Bool.toNat_true]
      omega
theorem zb_surj10 {T P : Nat} {col : Nat → Nat} (h : ∀ t, T.testBit t = true → ∃ p, p < 10 ∧ P.testBit p = true ∧ col p = t) : zb_cnt T 10 ≤ zb_cnt P 10 := by
  refine Nat.le_trans (zb_surj h 10) (zb_cnt_mono (fun i hi => ?_) 10)
  rw [zk_set_bit] at hi
  exact hi.2.1
/-- how many tops: by count, and as a set -/
theorem zk_t_cnt (hn : n ≤ 10) : zk_t A up n = zb_cnt (zk_set n (fun v => A.testBit v = true ∧ up v = 0)) 10 := by
  have : ∀ k, k ≤ n → zk_t A up k = zb_cnt (zk_set n (fun v => A.testBit v = true ∧ up v = 0)) k := by
    intro k
    induction k with
    | zero => intro _; rfl
    | succ k ih =>
      intro hk
      rw [zk_t, zb_cnt, ih (by omega)]
      by_cases e : A.testBit k = true ∧ up k = 0
      · rw [if_pos e, (zk_set_bit _ _ _).mpr ⟨by omega, e⟩]; rfl
      · rw [if_neg e]
        have : (zk_set n (fun v => A.testBit v = true ∧ up v = 0)).testBit k = false := by
          cases hb : (zk_set n (fun v => A.testBit v = true ∧ up v = 0)).testBit k
          · rfl
          · exact absurd ((zk_set_bit _ _ _).mp hb).2 e
        rw [this]; rfl
  rw [this n (Nat.le_refl _), zb_cnt_10 (zb_lt_of fun i h => ((zk_set_bit _ _ _).mp h).1) hn]
/-- there is an antichain as large as the number of tops -/
def zk_Opt (n : Nat) (un : Nat → Nat) (A : Nat) (up : Nat → Nat) : Prop := ∃ P, zp_sub P A ∧ zp_uni n un P False ∧ zk_t A up n ≤ zb_cnt P 10
theorem zk_koenig (hn : n ≤ 10) (hP : zp_Po n un) (hO : zp_Ov n un ov) (hM : zk_Mt n ov A up dn) {S : Nat → Prop} (hS : zk_Cl n ov A dn S) (hall : ∀ u, u < n → A.testBit u = true → up u = 0 → S u) : zk_Opt n un A up := by
  refine ⟨zk_set n (fun v => A.testBit v = true ∧ S v ∧ ∀ u, u < n → S u → ¬ (ov u).testBit v = true), fun i hi => ((zk_set_bit _ _ _).mp hi).2.1, fun v hv u hu h1 h2 => ?_, ?_⟩
  · rw [zk_set_bit] at h1 h2
    rw [hP.rel hv hu]
    constructor
    · intro z
      exact h2.2.2.2 u h1.1 h1.2.2.1 (((hO u h1.1).2 v hv).mpr z)
    · exact False.elim
  · rw [zk_t_cnt hn]
    apply zb_surj10 (col := zk_tp up n)
    intro t ht
    rw [zk_set_bit] at ht
    have key : ∀ d v, v ≤ d → v < n → A.testBit v = true → S v → zk_tp up n v = t → ∃ p, p < 10 ∧ (zk_set n (fun v => A.testBit v = true ∧ S v ∧ ∀ u, u < n → S u → ¬ (ov u).testBit v = true)).testBit p = true ∧ zk_tp up n p = t := by
      intro d
      induction d with
      | zero =>
        intro v h1 h2 h3 h4 h5
        refine ⟨v, by omega, (zk_set_bit _ _ _).mpr ⟨h2, h3, h4, fun u hu hSu hb => ?_⟩, h5⟩
        have := (hO.lt hP hu hb).2.1
        omega
      | succ d ih =>
        intro v h1 h2 h3 h4 h5
        by_cases e : ∀ u, u < n → S u → ¬ (ov u).testBit v = true
        · exact ⟨v, by omega, (zk_set_bit _ _ _).mpr ⟨h2, h3, h4, e⟩, h5⟩
        · have : ∃ u, u < n ∧ S u ∧ (ov u).testBit v = true := by
            apply Classical.byContradiction
            intro z
            exact e (fun u u1 u2 u3 => z ⟨u, u1, u2, u3⟩)
          obtain ⟨u, u1, u2, u3⟩ := this
          obtain ⟨w, w1, w2, w3⟩ := hS u u1 u2 v h2 h3 u3
          obtain ⟨-, w4⟩ := hM.2 v h2 w w3
          obtain ⟨-, g2, -, g4, -, -⟩ := zk_edge hP hO hM w1 w4
          exact ih w (by omega) w1 g4 w2 (by rw [zk_tp_step hP hO hM w1 w4]; exact h5)
    exact key n t (by omega) ht.1 ht.2.1 (hall t ht.1 ht.2.1 ht.2.2) (zk_tp_0 ht.2.2 n)
theorem zk_max (hP : zp_Po n un) (hO : zp_Ov n un ov) (hM : zk_Mt n ov A up dn) (hA : A < 2 ^ n) (h : zk_Opt n un A up) : zp_Mx n un A False (zk_t A up n) := by
  obtain ⟨P, h1, h2, h3⟩ := h
  have hc := zk_cov hP hO hM hA
  refine ⟨⟨P, h1, h2, ?_⟩, fun p g1 g2 => zp_anti_cov _ A p hc hA g1 g2⟩
  have := zp_anti_cov _ A P hc hA h1 h2
  omega
theorem zk_wd (hn : n ≤ 10) (hP : zp_Po n un) (hO : zp_Ov n un ov) (hM : zk_Mt n ov A up dn) (hA : A < 2 ^ n) : zk_c up n ≤ zb_cnt A 10 ∧ zb_cnt A 10 - zk_c up n = zk_t A up n := by
  rw [zb_cnt_10 hA hn]
  have := zk_ct (A := A) (up := up) (n := n) (fun u hu h => by
    obtain ⟨v, hv⟩ : ∃ v, up u = v + 1 := ⟨up u - 1, by omega⟩
    exact (hM.1 u hu v hv).2.1) n (Nat.le_refl _)
  omega
end
end
section
/-! matchings built up: plain laws; the class's invariant -/
def zx_G (s : zS) : Prop := s 0 0 ≤ 10 ∧ zp_Po (s 0 0) (s 1) ∧ zp_Ov (s 0 0) (s 1) (s 2)
theorem zx_G.ok {s : zS} (h : zx_G s) : zx_ok s := by
  obtain ⟨h1, h2, h3⟩ := h
  refine ⟨h1, fun j hj => ⟨?_, ?_⟩⟩
  · have := h2.1 j hj
    have : 2 ^ j ≤ 2 ^ 10 := Nat.pow_le_pow_right (by decide) (by omega)
    omega
  · have := (h3 j hj).1
    have : 2 ^ s 0 0 ≤ 2 ^ 10 := Nat.pow_le_pow_right (by decide) h1
    omega
abbrev zx_4 (s : zS) (f g u d : Nat → Nat) : zS := zc_ar (zc_ar (zc_ar (zc_ar s 7 f) 8 g) 5 u) 6 d
theorem zx_4_4 (s : zS) (f g u d f' g' u' d' : Nat → Nat) : zx_4 (zx_4 s f g u d) f' g' u' d' = zx_4 s f' g' u' d' := by
  funext k
  by_cases h6 : k = 6
  · simp [zx_4, zc_ar, h6]
  · by_cases h5 : k = 5
    · simp [zx_4, zc_ar, h5]
    · by_cases h8 : k = 8
      · simp [zx_4, zc_ar, h8]
      · by_cases h7 : k = 7
        · simp [zx_4, zc_ar, h7]
        · simp [zx_4, zc_ar, h5, h6, h7, h8]
theorem zx_4_56 (s : zS) (u d : Nat → Nat) : zx_4 s (s 7) (s 8) u d = zc_ar (zc_ar s 5 u) 6 d := by
  funext k
  by_cases h6 : k = 6
  · simp [zx_4, zc_ar, h6]
  · by_cases h5 : k = 5
    · simp [zx_4, zc_ar, h5]
    · by_cases h8 : k = 8
      · simp [zx_4, zc_ar, h8]
      · by_cases h7 : k = 7
        · simp [zx_4, zc_ar, h7]
        · simp [zx_4, zc_ar, h5, h6, h7, h8]
theorem zx_4_78 (s : zS) (f g : Nat → Nat) : zx_4 s f g (s 5) (s 6) = zc_ar (zc_ar s 7 f) 8 g := by
  funext k
  by_cases h6 : k = 6
  · simp [zx_4, zc_ar, h6]
  · by_cases h5 : k = 5
    · simp [zx_4, zc_ar, h5]
    · simp [zx_4, zc_ar, h5, h6]
/-- what augment gives -/
def zk_Au (n : Nat) (ov : Nat → Nat) (A : Nat) (up dn : Nat → Nat) (start : Nat) (r : Bool) (u d : Nat → Nat) : Prop := match r with
  | false => u = up ∧ d = dn ∧ ∃ S : Nat → Prop, S start ∧ (∀ x, S x → x < n ∧ (x = start ∨ ¬ up x = 0)) ∧ zk_Cl n ov A dn S
  | true => zk_TF n ov A up dn start u d
def zk_PI (n : Nat) (ov : Nat → Nat) (A : Nat) (up dn : Nat → Nat) (i : Nat) : Prop := zk_Mt n ov A up dn ∧ (∀ x, x < n → ¬ up x = 0 → x < i) ∧ ∃ S : Nat → Prop, zk_Cl n ov A dn S ∧ (∀ x, S x → x < i) ∧ ∀ x, x < i → x < n → A.testBit x = true → up x = 0 → S x
theorem zk_PI_0 {n : Nat} {ov : Nat → Nat} {A : Nat} {up dn : Nat → Nat} (h : ∀ j, j < n → up j = 0 ∧ dn j = 0) : zk_PI n ov A up dn 0 := by
  refine ⟨⟨fun u hu v hv => ?_, fun v hv u hu => ?_⟩, fun x hx hu => absurd (h x hx).1 hu, fun _ => False, fun _ _ h => h.elim, fun _ h => h.elim, fun x hx => absurd hx (Nat.not_lt_zero _)⟩
  · have := (h u hu).1
    omega
  · have := (h v hv).2
    omega
theorem zk_PI_skip {n : Nat} {ov : Nat → Nat} {A : Nat} {up dn : Nat → Nat} {i : Nat} (h : zk_PI n ov A up dn i) (hA : ¬ A.testBit i = true) : zk_PI n ov A up dn (i + 1) := by
  obtain ⟨h1, h2, S, h3, h4, h5⟩ := h
  refine ⟨h1, fun x hx hu => by have := h2 x hx hu; omega, S, h3, fun x hx => by have := h4 x hx; omega, fun x hx hxn hAx hu => ?_⟩
  by_cases e : x = i
  · subst e; exact absurd hAx hA
  · exact h5 x (by omega) hxn hAx hu
theorem zk_PI_au {n : Nat} {ov : Nat → Nat} {A : Nat} {up dn : Nat → Nat} {i : Nat} {r : Bool} {u d : Nat → Nat} (h : zk_PI n ov A up dn i) (ha : zk_Au n ov A up dn i r u d) : zk_PI n ov A u d (i + 1) := by
  obtain ⟨h1, h2, S, h3, h4, h5⟩ := h
  cases r with
  | false =>
    obtain ⟨rfl, rfl, S2, g1, g2, g3⟩ := ha
    refine ⟨h1, fun x hx hu => by have := h2 x hx hu; omega, fun x => S x ∨ S2 x, fun y hy hSy v hv hA hb => ?_, fun x hx => ?_, fun x hx hxn hAx hu => ?_⟩
    · rcases hSy with q | q
      · obtain ⟨w, w1, w2, w3⟩ := h3 y hy q v hv hA hb
        exact ⟨w, w1, Or.inl w2, w3⟩
      · obtain ⟨w, w1, w2, w3⟩ := g3 y hy q v hv hA hb
        exact ⟨w, w1, Or.inr w2, w3⟩
    · rcases hx with q | q
      · have := h4 x q
        omega
      · obtain ⟨k1, k2⟩ := g2 x q
        rcases k2 with rfl | k2
        · omega
        · have := h2 x k1 k2
          omega
    · by_cases e : x = i
      · subst e; exact Or.inr g1
      · exact Or.inl (h5 x (by omega) hxn hAx hu)
  | true =>
    obtain ⟨g1, g2, g3⟩ := ha
    refine ⟨g1, fun x hx hu => ?_, S, g3 S h3 (fun q => by have := h4 i q; omega), fun x hx => by have := h4 x hx; omega, fun x hx hxn hAx hu => ?_⟩
    · by_cases e : x = i
      · omega
      · have := h2 x hx (fun q => hu ((g2 x hx).mpr ⟨q, e⟩))
        omega
    · have := (g2 x hxn).mp hu
      exact h5 x (by omega) hxn hAx this.1
theorem zk_PI_end {n : Nat} {un ov : Nat → Nat} {A : Nat} {up dn : Nat → Nat} (hn : n ≤ 10) (hP : zp_Po n un) (hO : zp_Ov n un ov) (h : zk_PI n ov A up dn n) : zk_Mt n ov A up dn ∧ zk_Opt n un A up := by
  obtain ⟨h1, h2, S, h3, h4, h5⟩ := h
  exact ⟨h1, zk_koenig hn hP hO h1 h3 (fun u hu => h5 u hu hu)⟩
theorem zk_Mt_congr {n : Nat} {ov : Nat → Nat} {A : Nat} {up dn up' dn' : Nat → Nat} (h : ∀ j, j < n → up' j = up j ∧ dn' j = dn j) (hM : zk_Mt n ov A up dn) : zk_Mt n ov A up' dn' := by
  refine ⟨fun u hu v hv => ?_, fun v hv u hu => ?_⟩
  · rw [(h u hu).1] at hv
    obtain ⟨h1, h2, h3, h4, h5⟩ := hM.1 u hu v hv
    exact ⟨h1, h2, h3, h4, by rw [(h v h1).2]; exact h5⟩
  · rw [(h v hv).2] at hu
    obtain ⟨h1, h2⟩ := hM.2 v hv u hu
    exact ⟨h1, by rw [(h u h1).1]; exact h2⟩
theorem zk_t_congr {A : Nat} {up up' : Nat → Nat} : ∀ n, (∀ j, j < n → up' j = up j) → zk_t A up' n = zk_t A up n := by
  intro n
  induction n with
  | zero => intro _; rfl
  | succ n ih =>
    intro h
    rw [zk_t, zk_t, ih (fun j hj => h j (by omega)), h n (by omega)]
theorem zk_Opt_congr {n : Nat} {un : Nat → Nat} {A : Nat} {up up' : Nat → Nat} (h : ∀ j, j < n → up' j = up j) (hO : zk_Opt n un A up) : zk_Opt n un A up' := by
  obtain ⟨P, h1, h2, h3⟩ := hO
  exact ⟨P, h1, h2, by rw [zk_t_congr n h]; exact h3⟩
/-- a longer matching has a top fewer -/
theorem zk_t_TF {A : Nat} {up up' : Nat → Nat} {start : Nat} (hA : A.testBit start = true) (h0 : up start = 0) : ∀ n, (∀ x, x < n → (up' x = 0 ↔ up x = 0 ∧ x ≠ start)) → zk_t A up n = zk_t A up' n + (if start < n then 1 else 0) := by
  intro n
  induction n with
  | zero => intro _; rfl
  | succ n ih =>
    intro h
    rw [zk_t, zk_t, ih (fun x hx => h x (by omega))]
    have hx := h n (by omega)
    by_cases e : n = start
    · subst e
      rw [if_neg (Nat.lt_irrefl n), if_pos ⟨hA, h0⟩, if_neg (fun z => (hx.mp z.2).2 rfl), if_pos (by omega)]
    · have e2 : (A.testBit n = true ∧ up n = 0) ↔ (A.testBit n = true ∧ up' n = 0) := by
        rw [hx]
        exact ⟨fun z => ⟨z.1, z.2, e⟩, fun z => ⟨z.1, z.2.1⟩⟩
      by_cases q : A.testBit n = true ∧ up n = 0
      · rw [if_pos q, if_pos (e2.mp q)]
        by_cases q2 : start < n
        · rw [if_pos q2, if_pos (by omega)]
        · rw [if_neg q2, if_neg (by omega)]
      · rw [if_neg q, if_neg (fun z => q (e2.mpr z))]
        by_cases q2 : start < n
        · rw [if_pos q2, if_pos (by omega)]
        · rw [if_neg q2, if_neg (by omega)]
def zx_eq (s s' : zS) : Prop := s' 0 0 = s 0 0 ∧ s' 1 = s 1 ∧ s' 2 = s 2
/-- the class's invariant: the order, its dual, and what is kept of the matching of all -/
def zx_I (s : zS) : Prop := zx_G s ∧ (s 0 1 = 0 ∨ s 0 1 = 1) ∧ (s 0 1 = 1 → zk_Mt (s 0 0) (s 2) (2 ^ s 0 0 - 1) (s 3) (s 4) ∧ zk_Opt (s 0 0) (s 1) (2 ^ s 0 0 - 1) (s 3))
end
section
set_option maxRecDepth 100000
set_option maxHeartbeats 4000000 in
/-- turnPath(z, start) -/
theorem mX_turnPath (l : Launch) (s : zS) (A e start z : Nat) (f : Nat → Nat) (hn : s 0 0 ≤ 10) (he : e ≤ 10) (hM : zk_Mt (s 0 0) (s 2) A (s 5) (s 6)) (hQ : zk_Qd (s 0 0) (s 2) A (s 5) (s 8) f e start) (h0 : s 5 start = 0) (hT : zk_TI (s 0 0) (s 2) A (s 5) (s 6) (s 8) f start e (s 5) (s 6) z) : zc_M l zc_XL yX0_turnPath cX0_turnPath 7 0 0 none [.int (nI z), .int (nI start)] s (fun v s' => v = none ∧ ∃ u d, s' = zc_ar (zc_ar s 5 u) 6 d ∧ zk_TF (s 0 0) (s 2) A (s 5) (s 6) start u d) := by
  refine zc_M.of (own := RX0) rfl rfl (fun _ => Nat.le_of_ble_eq_true rfl) ?_
  intro q ca G hG
  show G s 0 [(0, .ref (q 0)), (1, .int (nI z)), (2, .int (nI start))] []
  have hst : start < s 0 0 := by
    have := (hQ.1 0 hQ.2.2.2.1).1
    rw [hQ.2.2.1] at this
    exact this
  have lp : ∀ (k : Nat) (t y r : Nat) (u d : Nat → Nat), t + r ≤ 10 → r ≤ e → r + 1 ≤ k → zk_TI (s 0 0) (s 2) A (s 5) (s 6) (s 8) f start r u d y → G (zc_ar (zc_ar s 5 u) 6 d) 5 [(0, .ref (q 0)), (1, .int (nI z)), (2, .int (nI start)), (3, .int (nI y)), (4, .int (nI t))] [] := by
    intro k
    induction k with
    | zero => intros; omega
    | succ k ih =>
      intro t y r u d htr hre hk hI
      have hy := hI.2.1
      obtain ⟨i0, hi0, hc0, -⟩ := hI.2.2.2.1
      have hcn : s 8 y < s 0 0 := by rw [hc0]; exact (hQ.1 i0 (by omega)).1
      refine g_iload hG dX0_turnPath_5 4 rfl ?_
      refine g_bipush (v := nI 10) hG dX0_turnPath_7 (by decide) ?_
      refine g_n_ge (tgt := 63) hG dX0_turnPath_9 (by decide) (by omega) (by omega) (fun h1 => ?_) (fun h1 => ?_)
      · omega
      · refine g_aload_n hG dX0_turnPath_12 rfl 0 rfl ?_
        refine x_get (s := zc_ar (zc_ar s 5 u) 6 d) (v := .ref (q 8)) hG 9 (by decide) rfl q45 rfl dX0_turnPath_13 ?_
        refine g_iload_n hG dX0_turnPath_16 rfl 3 rfl ?_
        refine g_bldn (s := zc_ar (zc_ar s 5 u) 6 d) (f := s 8) (v := y) hG 8 rfl rfl (by omega) (by decide) dX0_turnPath_17 ?_
        refine g_istore (lv' := [(0, .ref (q 0)), (1, .int (nI z)), (2, .int (nI start)), (3, .int (nI y)), (4, .int (nI t)), (5, .int (nI (s 8 y)))]) hG dX0_turnPath_18 (by decide) [1, 2, 3, 4, 5, 0] rfl ?_
        refine g_aload_n hG dX0_turnPath_20 rfl 0 rfl ?_
        refine x_get (s := zc_ar (zc_ar s 5 u) 6 d) (v := .ref (q 5)) hG 6 (by decide) rfl q42 rfl dX0_turnPath_21 ?_
        refine g_iload hG dX0_turnPath_24 5 rfl ?_
        refine g_bldp (s := zc_ar (zc_ar s 5 u) 6 d) (f := u) (v := s 8 y) hG 5 rfl rfl (by omega) (by decide) dX0_turnPath_26 ?_
        refine g_istore (lv' := [(0, .ref (q 0)), (1, .int (nI z)), (2, .int (nI start)), (3, .int (nI y)), (4, .int (nI t)), (5, .int (nI (s 8 y))), (6, .int (pI (u (s 8 y))))]) hG dX0_turnPath_27 (by decide) [1, 2, 3, 4, 5, 6, 0] rfl ?_
        refine g_aload_n hG dX0_turnPath_29 rfl 0 rfl ?_
        refine x_get (s := zc_ar (zc_ar s 5 u) 6 d) (v := .ref (q 5)) hG 6 (by decide) rfl q42 rfl dX0_turnPath_30 ?_
        refine g_iload hG dX0_turnPath_33 5 rfl ?_
        refine g_iload_n hG dX0_turnPath_35 rfl 3 rfl ?_
        refine g_i2b (v := nI y) hG dX0_turnPath_36 (zc_b8n _ (by omega)) ?_
        refine g_as (y := pI (y + 1)) (pI_s _).symm ?_
        refine g_bstp (s := zc_ar (zc_ar s 5 u) 6 d) (f := u) (v := s 8 y) (e := y + 1) hG 5 rfl rfl rfl (by omega) (by decide) (by omega) dX0_turnPath_37 ?_
        refine g_eqs (s' := zc_ar (zc_ar s 5 (zc_up u (s 8 y) (y + 1))) 6 d) ((zc_st_arC (by decide) _ _ _ _).trans (congrArg (fun zz_ => zc_ar zz_ 6 d) (zc_st_ar _ _ _ _ _))) ?_
        refine g_aload_n hG dX0_turnPath_38 rfl 0 rfl ?_
        refine x_get (s := zc_ar (zc_ar s 5 (zc_up u (s 8 y) (y + 1))) 6 d) (v := .ref (q 6)) hG 7 (by decide) rfl q43 rfl dX0_turnPath_39 ?_
        refine g_iload_n hG dX0_turnPath_42 rfl 3 rfl ?_
        refine g_iload hG dX0_turnPath_43 5 rfl ?_
        refine g_i2b (v := nI (s 8 y)) hG dX0_turnPath_45 (zc_b8n _ (by omega)) ?_
        refine g_as (y := pI ((s 8 y) + 1)) (pI_s _).symm ?_
        refine g_bstp (s := zc_ar (zc_ar s 5 (zc_up u (s 8 y) (y + 1))) 6 d) (f := d) (v := y) (e := (s 8 y) + 1) hG 6 rfl rfl rfl (by omega) (by decide) (by omega) dX0_turnPath_46 ?_
        refine g_eqs (s' := zc_ar (zc_ar s 5 (zc_up u (s 8 y) (y + 1))) 6 (zc_up d y ((s 8 y) + 1))) (zc_st_ar _ _ _ _ _) ?_
        refine g_iload hG dX0_turnPath_47 5 rfl ?_
        refine g_iload_n hG dX0_turnPath_49 rfl 2 rfl ?_
        refine g_n_ne (tgt := 54) hG dX0_turnPath_50 (by decide) (by omega) (by omega) (fun h2 => ?_) (fun h2 => ?_)
        · obtain ⟨i, y', hi, hup, hy', hI'⟩ := zk_TI_step hre hM hQ hI h2
          refine g_iload hG dX0_turnPath_54 6 rfl ?_
          refine g_as (y := nI y') (by rw [hup]; exact pI_s y') ?_
          refine g_istore_n (lv' := [(0, .ref (q 0)), (1, .int (nI z)), (2, .int (nI start)), (3, .int (nI y')), (4, .int (nI t)), (5, .int (nI (s 8 y))), (6, .int (pI (u (s 8 y))))]) hG dX0_turnPath_56 rfl (by decide) [1, 2, 3, 0, 4, 5, 6] rfl ?_
          refine g_iinc (v := nI (t + 1)) (lv' := [(0, .ref (q 0)), (1, .int (nI z)), (2, .int (nI start)), (3, .int (nI y')), (4, .int (nI (t + 1))), (5, .int (nI (s 8 y))), (6, .int (pI (u (s 8 y))))]) hG dX0_turnPath_57 4 rfl (nI_add _ _) (by decide) [1, 2, 3, 4, 0, 5, 6] rfl ?_
          refine g_goto (tgt := 5) hG dX0_turnPath_60 (by decide) ?_
          exact g_sub (lv' := [(0, .ref (q 0)), (1, .int (nI z)), (2, .int (nI start)), (3, .int (nI y')), (4, .int (nI (t + 1)))]) hG [0, 1, 2, 3, 4] (rfl) (ih (t + 1) y' i _ _ (by omega) (by omega) (by omega) hI')
        · exact g_vret hG rfl dX0_turnPath_53 (⟨rfl, _, _, rfl, by have := zk_TI_last hM hQ h0 hI h2; rw [← h2] at this ⊢; exact this⟩)
  refine g_eqs (s' := zc_ar s 5 (s 5)) (zc_ar_self s 5).symm ?_
  refine g_eqs (s' := zc_ar (zc_ar s 5 (s 5)) 6 (s 6)) (zc_ar_self (zc_ar s 5 (s 5)) 6).symm ?_
  refine g_iload_n hG dX0_turnPath_0 rfl 1 rfl ?_
  refine g_istore_n (lv' := [(0, .ref (q 0)), (1, .int (nI z)), (2, .int (nI start)), (3, .int (nI z))]) hG dX0_turnPath_1 rfl (by decide) [1, 2, 3, 0] rfl ?_
  refine g_iconst (v := nI 0) hG dX0_turnPath_2 rfl ?_
  refine g_istore (lv' := [(0, .ref (q 0)), (1, .int (nI z)), (2, .int (nI start)), (3, .int (nI z)), (4, .int (nI 0))]) hG dX0_turnPath_3 (by decide) [1, 2, 3, 4, 0] rfl ?_
  exact lp (e + 1) 0 z e (s 5) (s 6) (by omega) (by omega) (by omega) hT
set_option maxHeartbeats 4000000 in
/-- augment(start, A) -/
theorem mX_augment (l : Launch) (s : zS) (A start : Nat) (hg : zx_G s) (hM : zk_Mt (s 0 0) (s 2) A (s 5) (s 6)) (hs : start < s 0 0) (hAs : A.testBit start = true) (h0 : s 5 start = 0) : zc_M l zc_XL yX0_augment cX0_augment 8 1 26 (some .boolean) [.int (nI start), .int (nI A)] s (fun v s' => ∃ (r : Bool) (f g u d : Nat → Nat), v = some (.int (nI r.toNat)) ∧ s' = zx_4 s f g u d ∧ zk_Au (s 0 0) (s 2) A (s 5) (s 6) start r u d) := by
  refine zc_M.of (own := RX0) rfl rfl (fun _ => Nat.le_of_ble_eq_true rfl) ?_
  intro q ca G hG
  show G s 0 [(0, .ref (q 0)), (1, .int (nI start)), (2, .int (nI A))] []
  have hok := hg.ok
  obtain ⟨hn, hP, hO⟩ := hg
  have lp : ∀ (k : Nat) (t en se : Nat) (f g : Nat → Nat), t ≤ en → en ≤ s 0 0 → s 0 0 + 1 ≤ t + k → zk_B (s 0 0) (s 2) A (s 5) (s 6) start f g en se t → G (zc_ar (zc_ar s 7 f) 8 g) 16 [(0, .ref (q 0)), (1, .int (nI start)), (2, .int (nI A)), (3, .int (nI en)), (4, .int (nI se)), (5, .int (nI t))] [] := by
    intro k
    induction k with
    | zero => intros; omega
    | succ k ih =>
      intro t en se f g ht hen hk hB
      refine g_iload hG dX0_augment_16 5 rfl ?_
      refine g_iload_n hG dX0_augment_18 rfl 3 rfl ?_
      refine g_n_ge (tgt := 160) hG dX0_augment_19 (by decide) (by omega) (by omega) (fun h1 => ?_) (fun h1 => ?_)
      · refine g_iconst (v := nI 0) hG dX0_augment_160 rfl ?_
        exact g_iret hG rfl (rfl) dX0_augment_161 (⟨false, f, g, s 5, s 6, rfl, (zx_4_78 s f g).symm, rfl, rfl, zk_B_end hB (by omega)⟩)
      · have hfn := (hB.1.1 t (by omega)).1
        obtain ⟨y, hy⟩ : ∃ y, y = f t := ⟨_, rfl⟩
        have hyn : y < s 0 0 := by rw [hy]; exact hfn
        have ho8 := (hok.2 y hyn).2
        refine g_aload_n hG dX0_augment_22 rfl 0 rfl ?_
        refine x_get (s := zc_ar (zc_ar s 7 f) 8 g) (v := .ref (q 7)) hG 8 (by decide) rfl q44 rfl dX0_augment_23 ?_
        refine g_iload hG dX0_augment_26 5 rfl ?_
        refine g_bldn (s := zc_ar (zc_ar s 7 f) 8 g) (f := f) (v := t) hG 7 rfl rfl (by omega) (by decide) dX0_augment_28 ?_
        refine g_as (y := nI y) (by rw [hy]) ?_
        have lp2 : ∀ (k2 : Nat) (x en se : Nat) (f g : Nat → Nat), x ≤ s 0 0 → s 0 0 + 1 ≤ x + k2 → t < en → y = f t → zk_B (s 0 0) (s 2) A (s 5) (s 6) start f g en se t → zk_C (s 0 0) (s 2) A y se x → G (zc_ar (zc_ar s 7 f) 8 g) 37 [(0, .ref (q 0)), (1, .int (nI start)), (2, .int (nI A)), (3, .int (nI en)), (4, .int (nI se)), (5, .int (nI t)), (6, .int (nI y)), (7, .int (nI x))] [] := by
          intro k2
          induction k2 with
          | zero => intros; omega
          | succ k2 ih2 =>
            intro x en se f g hx hk2 hte hyt hB hC
            have hen := hB.2.1
            have hse : se < 2 ^ 31 := zb_lt31 (zb_lt_of (fun i hi => (hB.2.2.2.1 i hi).1)) (by omega : s 0 0 ≤ 31)
            have hm8 : zb_dif (s 2 y &&& A) se < 2 ^ 31 := Nat.lt_of_le_of_lt (zb_dif_le _ _) (zb_and_lt (by omega))
            refine g_iload hG dX0_augment_37 7 rfl ?_
            refine g_aload_n hG dX0_augment_39 rfl 0 rfl ?_
            refine x_get (s := zc_ar (zc_ar s 7 f) 8 g) (v := .int (nI (s 0 0))) hG 0 (by decide) rfl q36 rfl dX0_augment_40 ?_
            refine g_n_ge (tgt := 154) hG dX0_augment_43 (by decide) (by omega) (by omega) (fun h4 => ?_) (fun h4 => ?_)
            · refine g_iinc (v := nI (t + 1)) (lv' := [(0, .ref (q 0)), (1, .int (nI start)), (2, .int (nI A)), (3, .int (nI en)), (4, .int (nI se)), (5, .int (nI (t + 1))), (6, .int (nI y)), (7, .int (nI x))]) hG dX0_augment_154 5 rfl (nI_add _ _) (by decide) [1, 2, 3, 4, 5, 0, 6, 7] rfl ?_
              refine g_goto (tgt := 16) hG dX0_augment_157 (by decide) ?_
              exact g_sub (lv' := [(0, .ref (q 0)), (1, .int (nI start)), (2, .int (nI A)), (3, .int (nI en)), (4, .int (nI se)), (5, .int (nI (t + 1)))]) hG [0, 1, 2, 3, 4, 5] (rfl) (ih (t + 1) en se f g (by omega) (by omega) (by omega) (zk_B_next hB (by rw [← hyt]; exact (fun z hz => hC z (by omega)))))
            · refine g_aload_n hG dX0_augment_46 rfl 0 rfl ?_
              refine x_get (s := zc_ar (zc_ar s 7 f) 8 g) (v := .ref (q 2)) hG 2 (by decide) rfl q38 rfl dX0_augment_47 ?_
              refine g_iload hG dX0_augment_50 6 rfl ?_
              refine g_ild (s := zc_ar (zc_ar s 7 f) 8 g) (f := s 2) (v := y) hG 2 rfl rfl (by omega) (by decide) dX0_augment_52 ?_
              refine g_iload_n hG dX0_augment_53 rfl 2 rfl ?_
              refine g_iand (z := nI ((s 2 y) &&& A)) hG dX0_augment_54 (nx_and _ _) ?_
              refine g_iload hG dX0_augment_55 4 rfl ?_
              refine g_iconst (v := -1) hG dX0_augment_57 rfl ?_
              refine g_ixor (z := nI se ^^^ (-1)) hG dX0_augment_58 (rfl) ?_
              refine g_iand (z := nI (zb_dif ((s 2 y) &&& A) se)) hG dX0_augment_59 (nx_not _ _) ?_
              refine g_iload hG dX0_augment_60 7 rfl ?_
              refine g_ishr (z := nI ((zb_dif ((s 2 y) &&& A) se) >>> x)) hG dX0_augment_62 (nx_shr (hm8) (by omega)) ?_
              refine g_z_ne (tgt := 69) hG dX0_augment_63 (by decide) (Nat.lt_of_le_of_lt (zb_shr_le _ _) hm8) (fun h5 => ?_) (fun h5 => ?_)
              · refine g_aload_n hG dX0_augment_69 rfl 0 rfl ?_
                refine x_get (s := zc_ar (zc_ar s 7 f) 8 g) (v := .ref (q 2)) hG 2 (by decide) rfl q38 rfl dX0_augment_70 ?_
                refine g_iload hG dX0_augment_73 6 rfl ?_
                refine g_ild (s := zc_ar (zc_ar s 7 f) 8 g) (f := s 2) (v := y) hG 2 rfl rfl (by omega) (by decide) dX0_augment_75 ?_
                refine g_iload_n hG dX0_augment_76 rfl 2 rfl ?_
                refine g_iand (z := nI ((s 2 y) &&& A)) hG dX0_augment_77 (nx_and _ _) ?_
                refine g_iload hG dX0_augment_78 4 rfl ?_
                refine g_iconst (v := -1) hG dX0_augment_80 rfl ?_
                refine g_ixor (z := nI se ^^^ (-1)) hG dX0_augment_81 (rfl) ?_
                refine g_iand (z := nI (zb_dif ((s 2 y) &&& A) se)) hG dX0_augment_82 (nx_not _ _) ?_
                refine g_iconst (v := nI 1) hG dX0_augment_83 rfl ?_
                refine g_iload hG dX0_augment_84 7 rfl ?_
                refine g_ishl (z := nI (2 ^ x)) hG dX0_augment_86 (nx_shl1 x (by omega)) ?_
                refine g_iand (z := nI ((zb_dif ((s 2 y) &&& A) se) &&& (2 ^ x))) hG dX0_augment_87 (nx_and _ _) ?_
                refine g_z_ne (tgt := 94) hG dX0_augment_88 (by decide) (zb_and_lt hm8) (fun h6 => ?_) (fun h6 => ?_)
                · have hb := (zb_dif_iff _ _ _).mp (Classical.not_not.mp (fun z => h6 (zb_and_pow.mpr z)))
                  have hb1 := (zb_and_iff _ _ _).mp hb.1
                  have hd8 := (hM.le (j := x) (by omega)).2
                  refine g_iload hG dX0_augment_94 4 rfl ?_
                  refine g_iconst (v := nI 1) hG dX0_augment_96 rfl ?_
                  refine g_iload hG dX0_augment_97 7 rfl ?_
                  refine g_ishl (z := nI (2 ^ x)) hG dX0_augment_99 (nx_shl1 x (by omega)) ?_
                  refine g_ior (z := nI (se ||| (2 ^ x))) hG dX0_augment_100 (nx_or _ _) ?_
                  refine g_istore (lv' := [(0, .ref (q 0)), (1, .int (nI start)), (2, .int (nI A)), (3, .int (nI en)), (4, .int (nI (se ||| (2 ^ x)))), (5, .int (nI t)), (6, .int (nI y)), (7, .int (nI x))]) hG dX0_augment_101 (by decide) [1, 2, 3, 4, 0, 5, 6, 7] rfl ?_
                  refine g_aload_n hG dX0_augment_103 rfl 0 rfl ?_
                  refine x_get (s := zc_ar (zc_ar s 7 f) 8 g) (v := .ref (q 8)) hG 9 (by decide) rfl q45 rfl dX0_augment_104 ?_
                  refine g_iload hG dX0_augment_107 7 rfl ?_
                  refine g_iload hG dX0_augment_109 6 rfl ?_
                  refine g_i2b (v := nI y) hG dX0_augment_111 (zc_b8n _ (by omega)) ?_
                  refine g_bstn (s := zc_ar (zc_ar s 7 f) 8 g) (f := g) (v := x) (e := y) hG 8 rfl rfl rfl (by omega) (by decide) (by omega) dX0_augment_112 ?_
                  refine g_eqs (s' := zc_ar (zc_ar s 7 f) 8 (zc_up g x y)) (zc_st_ar _ _ _ _ _) ?_
                  refine g_aload_n hG dX0_augment_113 rfl 0 rfl ?_
                  refine x_get (s := zc_ar (zc_ar s 7 f) 8 (zc_up g x y)) (v := .ref (q 6)) hG 7 (by decide) rfl q43 rfl dX0_augment_114 ?_
                  refine g_iload hG dX0_augment_117 7 rfl ?_
                  refine g_bldp (s := zc_ar (zc_ar s 7 f) 8 (zc_up g x y)) (f := s 6) (v := x) hG 6 rfl rfl (by omega) (by decide) dX0_augment_119 ?_
                  refine g_p_ge (tgt := 132) hG dX0_augment_120 (by decide) (by omega) (fun h7 => ?_) (fun h7 => ?_)
                  · obtain ⟨p, hp⟩ : ∃ p, s 6 x = p + 1 := ⟨s 6 x - 1, by omega⟩
                    have hB2 := zk_B_add hn hM h0 hB (by omega) (by omega) hb1.2 (by rw [← hyt]; exact hb1.1) hb.2 hp
                    rw [← hyt] at hB2
                    have hen2 := hB2.2.1
                    have hpn := (hM.2 x (by omega) p hp).1
                    refine g_aload_n hG dX0_augment_132 rfl 0 rfl ?_
                    refine x_get (s := zc_ar (zc_ar s 7 f) 8 (zc_up g x y)) (v := .ref (q 7)) hG 8 (by decide) rfl q44 rfl dX0_augment_133 ?_
                    refine g_iload_n hG dX0_augment_136 rfl 3 rfl ?_
                    refine g_aload_n hG dX0_augment_137 rfl 0 rfl ?_
                    refine x_get (s := zc_ar (zc_ar s 7 f) 8 (zc_up g x y)) (v := .ref (q 6)) hG 7 (by decide) rfl q43 rfl dX0_augment_138 ?_
                    refine g_iload hG dX0_augment_141 7 rfl ?_
                    refine g_bldp (s := zc_ar (zc_ar s 7 f) 8 (zc_up g x y)) (f := s 6) (v := x) hG 6 rfl rfl (by omega) (by decide) dX0_augment_143 ?_
                    refine g_as (y := nI p) (by rw [hp]; exact pI_s p) ?_
                    refine g_bstn (s := zc_ar (zc_ar s 7 f) 8 (zc_up g x y)) (f := f) (v := en) (e := p) hG 7 rfl rfl rfl (by omega) (by decide) (by omega) dX0_augment_144 ?_
                    refine g_eqs (s' := zc_ar (zc_ar s 7 (zc_up f en p)) 8 (zc_up g x y)) ((zc_st_arC (by decide) _ _ _ _).trans (congrArg (fun zz_ => zc_ar zz_ 8 (zc_up g x y)) (zc_st_ar _ _ _ _ _))) ?_
                    refine g_iinc (v := nI (en + 1)) (lv' := [(0, .ref (q 0)), (1, .int (nI start)), (2, .int (nI A)), (3, .int (nI (en + 1))), (4, .int (nI (se ||| (2 ^ x)))), (5, .int (nI t)), (6, .int (nI y)), (7, .int (nI x))]) hG dX0_augment_145 3 rfl (nI_add _ _) (by decide) [1, 2, 3, 0, 4, 5, 6, 7] rfl ?_
                    refine g_iinc (v := nI (x + 1)) (lv' := [(0, .ref (q 0)), (1, .int (nI start)), (2, .int (nI A)), (3, .int (nI (en + 1))), (4, .int (nI (se ||| (2 ^ x)))), (5, .int (nI t)), (6, .int (nI y)), (7, .int (nI (x + 1)))]) hG dX0_augment_148 7 rfl (nI_add _ _) (by decide) [1, 2, 3, 4, 5, 6, 7, 0] rfl ?_
                    refine g_goto (tgt := 37) hG dX0_augment_151 (by decide) ?_
                    exact ih2 (x + 1) (en + 1) _ _ _ (by omega) (by omega) (by omega) (by rw [zc_up_n (by omega)]; exact hyt) hB2 (zk_C_add hC)
                  · have hQ2 := zk_Qd_g (u := y) hB hb.2
                    have hT2 := zk_TI_0 (start := start) (cf := zc_up g x y) (f := f) (i := t) hM (by omega : x < s 0 0) hb1.2 h7 (by omega : t < en) (by rw [zc_up_s]; exact hyt) (by rw [← hyt]; exact hb1.1)
                    refine g_aload_n hG dX0_augment_123 rfl 0 rfl ?_
                    refine g_iload hG dX0_augment_124 7 rfl ?_
                    refine g_iload_n hG dX0_augment_126 rfl 1 rfl ?_
                    refine g_call hG (mX_turnPath l (zc_ar (zc_ar s 7 f) 8 (zc_up g x y)) A en start x f hn (by omega) hM hQ2 h0 hT2) 2 q92 q94 qs4 q26 q95 (by decide +kernel) rfl ⟨by decide, by decide⟩ (ci := 0) rfl rfl rfl [] rfl (by simp [Value.category]) dX0_augment_127 ?_
                    rintro _ _ ⟨rfl, u, d, rfl, hTF⟩
                    show G (zc_ar (zc_ar (zc_ar (zc_ar s 7 f) 8 (zc_up g x y)) 5 u) 6 d) 130 [(0, .ref (q 0)), (1, .int (nI start)), (2, .int (nI A)), (3, .int (nI en)), (4, .int (nI (se ||| (2 ^ x)))), (5, .int (nI t)), (6, .int (nI y)), (7, .int (nI x))] []
                    refine g_iconst (v := nI 1) hG dX0_augment_130 rfl ?_
                    exact g_iret hG rfl (rfl) dX0_augment_131 (⟨true, f, _, u, d, rfl, rfl, hTF⟩)
                · refine g_goto (tgt := 148) hG dX0_augment_91 (by decide) ?_
                  refine g_iinc (v := nI (x + 1)) (lv' := [(0, .ref (q 0)), (1, .int (nI start)), (2, .int (nI A)), (3, .int (nI en)), (4, .int (nI se)), (5, .int (nI t)), (6, .int (nI y)), (7, .int (nI (x + 1)))]) hG dX0_augment_148 7 rfl (nI_add _ _) (by decide) [1, 2, 3, 4, 5, 6, 7, 0] rfl ?_
                  refine g_goto (tgt := 37) hG dX0_augment_151 (by decide) ?_
                  exact ih2 (x + 1) en se f g (by omega) (by omega) (by omega) hyt hB (zk_C_skip hC h6)
              · refine g_goto (tgt := 154) hG dX0_augment_66 (by decide) ?_
                refine g_iinc (v := nI (t + 1)) (lv' := [(0, .ref (q 0)), (1, .int (nI start)), (2, .int (nI A)), (3, .int (nI en)), (4, .int (nI se)), (5, .int (nI (t + 1))), (6, .int (nI y)), (7, .int (nI x))]) hG dX0_augment_154 5 rfl (nI_add _ _) (by decide) [1, 2, 3, 4, 5, 0, 6, 7] rfl ?_
                refine g_goto (tgt := 16) hG dX0_augment_157 (by decide) ?_
                exact g_sub (lv' := [(0, .ref (q 0)), (1, .int (nI start)), (2, .int (nI A)), (3, .int (nI en)), (4, .int (nI se)), (5, .int (nI (t + 1)))]) hG [0, 1, 2, 3, 4, 5] (rfl) (ih (t + 1) en se f g (by omega) (by omega) (by omega) (zk_B_next hB (by rw [← hyt]; exact zk_C_brk hC h5)))
        refine g_istore (lv' := [(0, .ref (q 0)), (1, .int (nI start)), (2, .int (nI A)), (3, .int (nI en)), (4, .int (nI se)), (5, .int (nI t)), (6, .int (nI y))]) hG dX0_augment_29 (by decide) [1, 2, 3, 4, 5, 6, 0] rfl ?_
        refine g_iload hG dX0_augment_31 6 rfl ?_
        refine g_iconst (v := nI 1) hG dX0_augment_33 rfl ?_
        refine g_iadd (z := nI (y + 1)) hG dX0_augment_34 (nI_add _ _) ?_
        refine g_istore (lv' := [(0, .ref (q 0)), (1, .int (nI start)), (2, .int (nI A)), (3, .int (nI en)), (4, .int (nI se)), (5, .int (nI t)), (6, .int (nI y)), (7, .int (nI (y + 1)))]) hG dX0_augment_35 (by decide) [1, 2, 3, 4, 5, 6, 7, 0] rfl ?_
        exact lp2 (s 0 0 + 1) (y + 1) en se f g (by omega) (by omega) (by omega) hy hB (zk_C_0 (fun z hz => (hO.lt hP hyn hz).2.1))
  refine g_eqs (s' := zc_ar s 7 (s 7)) (zc_ar_self s 7).symm ?_
  refine g_eqs (s' := zc_ar (zc_ar s 7 (s 7)) 8 (s 8)) (zc_ar_self (zc_ar s 7 (s 7)) 8).symm ?_
  refine g_iconst (v := nI 1) hG dX0_augment_0 rfl ?_
  refine g_istore_n (lv' := [(0, .ref (q 0)), (1, .int (nI start)), (2, .int (nI A)), (3, .int (nI 1))]) hG dX0_augment_1 rfl (by decide) [1, 2, 3, 0] rfl ?_
  refine g_iconst (v := nI 0) hG dX0_augment_2 rfl ?_
  refine g_istore (lv' := [(0, .ref (q 0)), (1, .int (nI start)), (2, .int (nI A)), (3, .int (nI 1)), (4, .int (nI 0))]) hG dX0_augment_3 (by decide) [1, 2, 3, 4, 0] rfl ?_
  refine g_aload_n hG dX0_augment_5 rfl 0 rfl ?_
  refine x_get (s := zc_ar (zc_ar s 7 (s 7)) 8 (s 8)) (v := .ref (q 7)) hG 8 (by decide) rfl q44 rfl dX0_augment_6 ?_
  refine g_iconst (v := nI 0) hG dX0_augment_9 rfl ?_
  refine g_iload_n hG dX0_augment_10 rfl 1 rfl ?_
  refine g_i2b (v := nI start) hG dX0_augment_11 (zc_b8n _ (by omega)) ?_
  refine g_bstn (s := zc_ar (zc_ar s 7 (s 7)) 8 (s 8)) (f := s 7) (v := 0) (e := start) hG 7 rfl rfl rfl (by omega) (by decide) (by omega) dX0_augment_12 ?_
  refine g_eqs (s' := zc_ar (zc_ar s 7 (zc_up (s 7) 0 start)) 8 (s 8)) ((zc_st_arC (by decide) _ _ _ _).trans (congrArg (fun zz_ => zc_ar zz_ 8 (s 8)) (zc_st_ar _ _ _ _ _))) ?_
  refine g_iconst (v := nI 0) hG dX0_augment_13 rfl ?_
  refine g_istore (lv' := [(0, .ref (q 0)), (1, .int (nI start)), (2, .int (nI A)), (3, .int (nI 1)), (4, .int (nI 0)), (5, .int (nI 0))]) hG dX0_augment_14 (by decide) [1, 2, 3, 4, 5, 0] rfl ?_
  exact lp (s 0 0 + 1) 0 1 0 _ _ (by omega) (by omega) (by omega) (zk_B_0 hs hAs)
set_option maxHeartbeats 4000000 in
/-- pairUp(A) -/
theorem mX_pairUp (l : Launch) (s : zS) (A : Nat) (hg : zx_G s) (hA : A < 2 ^ s 0 0) : zc_M l zc_XL yX0_pairUp cX0_pairUp 3 2 53 none [.int (nI A)] s (fun v s' => v = none ∧ ∃ f g u d, s' = zx_4 s f g u d ∧ zk_Mt (s 0 0) (s 2) A u d ∧ zk_Opt (s 0 0) (s 1) A u) := by
  refine zc_M.of (own := RX0) rfl rfl (fun _ => Nat.le_of_ble_eq_true rfl) ?_
  intro q ca G hG
  show G s 0 [(0, .ref (q 0)), (1, .int (nI A))] []
  obtain ⟨hn, hP, hO⟩ := id hg
  have hA31 := zb_lt31 hA (by omega)
  have p2 : ∀ (k : Nat) (i : Nat) (f g u d : Nat → Nat), i ≤ s 0 0 → s 0 0 + 1 ≤ i + k → zk_PI (s 0 0) (s 2) A u d i → G (zc_ar (zc_ar (zc_ar (zc_ar s 7 f) 8 g) 5 u) 6 d) 32 [(0, .ref (q 0)), (1, .int (nI A)), (2, .int (nI i))] [] := by
    intro k
    induction k with
    | zero => intros; omega
    | succ k ih =>
      intro i f g u d hi hk hI
      refine g_iload_n hG dX0_pairUp_32 rfl 2 rfl ?_
      refine g_aload_n hG dX0_pairUp_33 rfl 0 rfl ?_
      refine x_get (s := zc_ar (zc_ar (zc_ar (zc_ar s 7 f) 8 g) 5 u) 6 d) (v := .int (nI (s 0 0))) hG 0 (by decide) rfl q36 rfl dX0_pairUp_34 ?_
      refine g_n_ge (tgt := 61) hG dX0_pairUp_37 (by decide) (by omega) (by omega) (fun h1 => ?_) (fun h1 => ?_)
      · obtain rfl : i = s 0 0 := by omega
        exact g_vret hG rfl dX0_pairUp_61 (⟨rfl, f, g, u, d, rfl, zk_PI_end hn hP hO hI⟩)
      · refine g_iload_n hG dX0_pairUp_40 rfl 1 rfl ?_
        refine g_iload_n hG dX0_pairUp_41 rfl 2 rfl ?_
        refine g_ishr (z := nI (A >>> i)) hG dX0_pairUp_42 (nx_shr (by omega) (by omega)) ?_
        refine g_iconst (v := nI 1) hG dX0_pairUp_43 rfl ?_
        refine g_iand (z := pB (A.testBit i = true)) hG dX0_pairUp_44 (nx_tb _ _) ?_
        refine g_b_eq (tgt := 55) hG dX0_pairUp_45 (by decide) (fun h2 => ?_) (fun h2 => ?_)
        · refine g_iinc (v := nI (i + 1)) (lv' := [(0, .ref (q 0)), (1, .int (nI A)), (2, .int (nI (i + 1)))]) hG dX0_pairUp_55 2 rfl (nI_add _ _) (by decide) [1, 2, 0] rfl ?_
          refine g_goto (tgt := 32) hG dX0_pairUp_58 (by decide) ?_
          exact ih (i + 1) f g u d (by omega) (by omega) (zk_PI_skip hI h2)
        · have hu0 : u i = 0 := Classical.not_not.mp (fun z => absurd (hI.2.1 i (by omega) z) (Nat.lt_irrefl i))
          refine g_aload_n hG dX0_pairUp_48 rfl 0 rfl ?_
          refine g_iload_n hG dX0_pairUp_49 rfl 2 rfl ?_
          refine g_iload_n hG dX0_pairUp_50 rfl 1 rfl ?_
          refine g_call hG (mX_augment l (zx_4 s f g u d) A i hg hI.1 (by show i < s 0 0; omega) h2 hu0) 2 q88 q90 qs3 q26 q91 (by decide +kernel) rfl ⟨by decide, by decide⟩ (ci := 0) rfl rfl rfl [] rfl (by simp [Value.category]) dX0_pairUp_51 ?_
          rintro _ _ ⟨r, f2, g2, u2, d2, rfl, rfl, hau⟩
          show G (zx_4 (zx_4 s f g u d) f2 g2 u2 d2) 54 [(0, .ref (q 0)), (1, .int (nI A)), (2, .int (nI i))] [.int (nI r.toNat)]
          refine g_eqs (s' := zx_4 s f2 g2 u2 d2) (zx_4_4 _ _ _ _ _ _ _ _ _) ?_
          refine g_pop hG dX0_pairUp_54 rfl ?_
          refine g_iinc (v := nI (i + 1)) (lv' := [(0, .ref (q 0)), (1, .int (nI A)), (2, .int (nI (i + 1)))]) hG dX0_pairUp_55 2 rfl (nI_add _ _) (by decide) [1, 2, 0] rfl ?_
          refine g_goto (tgt := 32) hG dX0_pairUp_58 (by decide) ?_
          exact ih (i + 1) f2 g2 u2 d2 (by omega) (by omega) (zk_PI_au hI hau)
  have p1 : ∀ (k : Nat) (i : Nat) (u d : Nat → Nat), i ≤ s 0 0 → s 0 0 + 1 ≤ i + k → (∀ j, j < i → u j = 0 ∧ d j = 0) → G (zc_ar (zc_ar s 5 u) 6 d) 2 [(0, .ref (q 0)), (1, .int (nI A)), (2, .int (nI i))] [] := by
    intro k
    induction k with
    | zero => intros; omega
    | succ k ih =>
      intro i u d hi hk hI
      refine g_iload_n hG dX0_pairUp_2 rfl 2 rfl ?_
      refine g_aload_n hG dX0_pairUp_3 rfl 0 rfl ?_
      refine x_get (s := zc_ar (zc_ar s 5 u) 6 d) (v := .int (nI (s 0 0))) hG 0 (by decide) rfl q36 rfl dX0_pairUp_4 ?_
      refine g_n_ge (tgt := 30) hG dX0_pairUp_7 (by decide) (by omega) (by omega) (fun h1 => ?_) (fun h1 => ?_)
      · refine g_eqs (s' := zx_4 s (s 7) (s 8) u d) (zx_4_56 s u d).symm ?_
        refine g_iconst (v := nI 0) hG dX0_pairUp_30 rfl ?_
        refine g_istore_n (lv' := [(0, .ref (q 0)), (1, .int (nI A)), (2, .int (nI 0))]) hG dX0_pairUp_31 rfl (by decide) [1, 2, 0] rfl ?_
        exact p2 (s 0 0 + 1) 0 (s 7) (s 8) u d (by omega) (by omega) (zk_PI_0 (fun j hj => hI j (by omega)))
      · refine g_aload_n hG dX0_pairUp_10 rfl 0 rfl ?_
        refine x_get (s := zc_ar (zc_ar s 5 u) 6 d) (v := .ref (q 5)) hG 6 (by decide) rfl q42 rfl dX0_pairUp_11 ?_
        refine g_iload_n hG dX0_pairUp_14 rfl 2 rfl ?_
        refine g_iconst (v := -1) hG dX0_pairUp_15 rfl ?_
        refine g_as (y := pI 0) rfl ?_
        refine g_bstp (s := zc_ar (zc_ar s 5 u) 6 d) (f := u) (v := i) (e := 0) hG 5 rfl rfl rfl (by omega) (by decide) (by omega) dX0_pairUp_16 ?_
        refine g_eqs (s' := zc_ar (zc_ar s 5 (zc_up u i 0)) 6 d) ((zc_st_arC (by decide) _ _ _ _).trans (congrArg (fun zz_ => zc_ar zz_ 6 d) (zc_st_ar _ _ _ _ _))) ?_
        refine g_aload_n hG dX0_pairUp_17 rfl 0 rfl ?_
        refine x_get (s := zc_ar (zc_ar s 5 (zc_up u i 0)) 6 d) (v := .ref (q 6)) hG 7 (by decide) rfl q43 rfl dX0_pairUp_18 ?_
        refine g_iload_n hG dX0_pairUp_21 rfl 2 rfl ?_
        refine g_iconst (v := -1) hG dX0_pairUp_22 rfl ?_
        refine g_as (y := pI 0) rfl ?_
        refine g_bstp (s := zc_ar (zc_ar s 5 (zc_up u i 0)) 6 d) (f := d) (v := i) (e := 0) hG 6 rfl rfl rfl (by omega) (by decide) (by omega) dX0_pairUp_23 ?_
        refine g_eqs (s' := zc_ar (zc_ar s 5 (zc_up u i 0)) 6 (zc_up d i 0)) (zc_st_ar _ _ _ _ _) ?_
        refine g_iinc (v := nI (i + 1)) (lv' := [(0, .ref (q 0)), (1, .int (nI A)), (2, .int (nI (i + 1)))]) hG dX0_pairUp_24 2 rfl (nI_add _ _) (by decide) [1, 2, 0] rfl ?_
        refine g_goto (tgt := 2) hG dX0_pairUp_27 (by decide) ?_
        exact ih (i + 1) _ _ (by omega) (by omega) (fun j hj => by
          by_cases e : j = i
          · subst e; rw [zc_up_s, zc_up_s]; exact ⟨rfl, rfl⟩
          · rw [zc_up_n e, zc_up_n e]; exact hI j (by omega))
  refine g_eqs (s' := zc_ar s 5 (s 5)) (zc_ar_self s 5).symm ?_
  refine g_eqs (s' := zc_ar (zc_ar s 5 (s 5)) 6 (s 6)) (zc_ar_self (zc_ar s 5 (s 5)) 6).symm ?_
  refine g_iconst (v := nI 0) hG dX0_pairUp_0 rfl ?_
  refine g_istore_n (lv' := [(0, .ref (q 0)), (1, .int (nI A)), (2, .int (nI 0))]) hG dX0_pairUp_1 rfl (by decide) [1, 2, 0] rfl ?_
  exact p1 (s 0 0 + 1) 0 _ _ (by omega) (by omega) (fun _ h => absurd h (Nat.not_lt_zero _))
end
section
/-! an element more; one element's largest antichains; the lowest and the highest: plain laws -/
theorem zp_all_bit {un : Nat → Nat} {a : Nat} (t : Nat) : ∀ n, (zp_all un a n).testBit t = true ↔ a.testBit t = true ∨ ∃ u, u < n ∧ a.testBit u = true ∧ (un u).testBit t = true := by
  intro n
  induction n with
  | zero =>
    rw [zp_all]
    exact ⟨Or.inl, fun h => h.elim id (fun ⟨u, h1, _⟩ => absurd h1 (Nat.not_lt_zero _))⟩
  | succ n ih =>
    by_cases h : a.testBit n = true
    · rw [zp_all_t h, zb_or_iff, ih]
      constructor
      · rintro ((q | ⟨u, u1, u2⟩) | q)
        · exact Or.inl q
        · exact Or.inr ⟨u, by omega, u2⟩
        · exact Or.inr ⟨n, by omega, h, q⟩
      · rintro (q | ⟨u, u1, u2, u3⟩)
        · exact Or.inl (Or.inl q)
        · by_cases e : u = n
          · subst e; exact Or.inr u3
          · exact Or.inl (Or.inr ⟨u, by omega, u2, u3⟩)
    · rw [zp_all_f h, ih]
      constructor
      · rintro (q | ⟨u, u1, u2⟩)
        · exact Or.inl q
        · exact Or.inr ⟨u, by omega, u2⟩
      · rintro (q | ⟨u, u1, u2, u3⟩)
        · exact Or.inl q
        · by_cases e : u = n
          · subst e; exact absurd u2 h
          · exact Or.inr ⟨u, by omega, u2, u3⟩
theorem zp_all_lt {un : Nat → Nat} {a n : Nat} (hP : zp_Po n un) (ha : a < 2 ^ n) : zp_all un a n < 2 ^ n := by
  apply zb_lt_of
  intro i hi
  rcases (zp_all_bit i n).mp hi with q | ⟨u, u1, u2, u3⟩
  · exact zb_bit_lt ha q
  · have := hP.lt u1 u3
    omega
theorem zp_Po_add {un un' : Nat → Nat} {a n : Nat} (hP : zp_Po n un) (ha : a < 2 ^ n) (h1 : ∀ j, j < n → un' j = un j) (h2 : un' n = zp_all un a n) : zp_Po (n + 1) un' := by
  refine ⟨fun v hv => ?_, fun v hv u hu t ht => ?_⟩
  · by_cases e : v = n
    · subst e; rw [h2]; exact zp_all_lt hP ha
    · rw [h1 v (by omega)]; exact hP.1 v (by omega)
  · by_cases e : v = n
    · subst e
      rw [h2] at hu ⊢
      have hun := zb_bit_lt (zp_all_lt hP ha) hu
      rw [h1 u hun] at ht
      rw [zp_all_bit] at hu ⊢
      rcases hu with q | ⟨y, y1, y2, y3⟩
      · exact Or.inr ⟨u, hun, q, ht⟩
      · exact Or.inr ⟨y, y1, y2, hP.2 y y1 u y3 t ht⟩
    · rw [h1 v (by omega)] at hu ⊢
      have := hP.lt (by omega) hu
      rw [h1 u (by omega)] at ht
      exact hP.2 v (by omega) u hu t ht
theorem zp_Ov_add {un un' ov ov' : Nat → Nat} {al n : Nat} (hP : zp_Po n un) (hO : zp_Ov n un ov) (h1 : ∀ j, j < n → un' j = un j) (h2 : un' n = al) (h3 : ov' n = 0) (h4 : ∀ j, j < n → ov' j = if al.testBit j = true then ov j ||| 2 ^ n else ov j) (hal : al < 2 ^ n) : zp_Ov (n + 1) un' ov' := by
  intro u hu
  by_cases e : u = n
  · subst e
    rw [h3]
    refine ⟨Nat.two_pow_pos _, fun v hv => ?_⟩
    rw [zb_0_iff]
    constructor
    · exact False.elim
    · intro hb
      by_cases e2 : v = u
      · subst e2
        rw [h2] at hb
        exact Nat.lt_irrefl _ (zb_bit_lt hal hb)
      · rw [h1 v (by omega)] at hb
        have := hP.lt (by omega) hb
        omega
  · have hun : u < n := by omega
    have hb : ∀ v, (ov' u).testBit v = true ↔ (ov u).testBit v = true ∨ (al.testBit u = true ∧ v = n) := by
      intro v
      rw [h4 u hun]
      by_cases q : al.testBit u = true
      · rw [if_pos q, zb_or_iff, zb_pw_iff]
        exact ⟨fun z => z.imp id (fun y => ⟨q, y⟩), fun z => z.imp id (fun y => y.2)⟩
      · rw [if_neg q]
        exact ⟨Or.inl, fun z => z.elim id (fun y => absurd y.1 q)⟩
    refine ⟨zb_lt_of fun i hi => ?_, fun v hv => ?_⟩
    · rcases (hb i).mp hi with q | q
      · have := zb_bit_lt (hO u hun).1 q
        omega
      · omega
    · rw [hb]
      by_cases e2 : v = n
      · subst e2
        rw [h2]
        constructor
        · rintro (q | q)
          · exact absurd (zb_bit_lt (hO u hun).1 q) (Nat.lt_irrefl _)
          · exact q.1
        · exact fun q => Or.inr ⟨q, rfl⟩
      · rw [h1 v (by omega)]
        rw [(hO u hun).2 v (by omega)]
        constructor
        · rintro (q | q)
          · exact q
          · exact absurd q.2 e2
        · exact Or.inl
theorem zk_Mt_add {ov ov' : Nat → Nat} {n : Nat} {ku kd : Nat → Nat} (h : ∀ u v, u < n → (ov u).testBit v = true → (ov' u).testBit v = true) (hM : zk_Mt n ov (2 ^ n - 1) ku kd) : zk_Mt (n + 1) ov' (2 ^ (n + 1) - 1) (zc_up ku n 0) (zc_up kd n 0) := by
  refine ⟨fun u hu v hv => ?_, fun v hv u hu => ?_⟩
  · by_cases e : u = n
    · subst e; rw [zc_up_s] at hv; omega
    · rw [zc_up_n e] at hv
      obtain ⟨h1, h2, h3, h4, h5⟩ := hM.1 u (by omega) v hv
      exact ⟨by omega, (zb_full_iff _ _).mpr (by omega), (zb_full_iff _ _).mpr (by omega), h u v (by omega) h4, by rw [zc_up_n (by omega)]; exact h5⟩
  · by_cases e : v = n
    · subst e; rw [zc_up_s] at hu; omega
    · rw [zc_up_n e] at hu
      obtain ⟨h1, h2⟩ := hM.2 v (by omega) u hu
      exact ⟨by omega, by rw [zc_up_n (by omega)]; exact h2⟩
theorem zk_t_full {up : Nat → Nat} {A B : Nat} : ∀ n, (∀ j, j < n → (A.testBit j = true ↔ B.testBit j = true)) → zk_t A up n = zk_t B up n := by
  intro n
  induction n with
  | zero => intro _; rfl
  | succ n ih =>
    intro h
    rw [zk_t, zk_t, ih (fun j hj => h j (by omega))]
    have := h n (by omega)
    by_cases q : A.testBit n = true ∧ up n = 0
    · rw [if_pos q, if_pos ⟨this.mp q.1, q.2⟩]
    · rw [if_neg q, if_neg (fun z => q ⟨this.mpr z.1, z.2⟩)]
theorem zk_Opt_add {un un' : Nat → Nat} {n : Nat} {ku : Nat → Nat} (h1 : ∀ j, j < n → un' j = un j) (hO : zk_Opt n un (2 ^ n - 1) ku) : ∃ P, zp_sub P (2 ^ (n + 1) - 1) ∧ zp_uni (n + 1) un' P False ∧ zk_t (2 ^ (n + 1) - 1) (zc_up ku n 0) (n + 1) ≤ zb_cnt P 10 + 1 := by
  obtain ⟨P, q1, q2, q3⟩ := hO
  have hPn : ∀ i, P.testBit i = true → i < n := fun i hi => (zb_full_iff _ _).mp (q1 i hi)
  refine ⟨P, fun i hi => (zb_full_iff _ _).mpr (by have := hPn i hi; omega), fun v hv u hu b1 b2 => ?_, ?_⟩
  · have h2 := hPn v b2
    have h3 := hPn u b1
    have := q2 v h2 u hu b1 b2
    unfold zp_rel at this ⊢
    rw [h1 v h2, h1 u h3]
    exact this
  · rw [zk_t]
    have e1 : zk_t (2 ^ (n + 1) - 1) (zc_up ku n 0) n = zk_t (2 ^ n - 1) ku n := by
      rw [zk_t_congr n (fun j hj => zc_up_n (by omega))]
      exact zk_t_full n (fun j hj => by rw [zb_full_iff, zb_full_iff]; omega)
    rw [e1]
    by_cases q : (2 ^ (n + 1) - 1).testBit n = true ∧ zc_up ku n 0 n = 0
    · rw [if_pos q]; omega
    · rw [if_neg q]; omega
section
variable {n : Nat} {un ov : Nat → Nat} {up dn : Nat → Nat}
theorem zp_La_iff {k a : Nat} (h : zp_Mx n un (2 ^ n - 1) False k) : zp_La n un a ↔ a < 2 ^ n ∧ zp_uni n un a False ∧ zb_cnt a 10 = k := by
  constructor
  · rintro ⟨h1, h2, h3⟩
    exact ⟨h1, h2, zp_Mx_uniq h3 h⟩
  · rintro ⟨h1, h2, h3⟩
    exact ⟨h1, h2, by rw [h3]; exact h⟩
/-- z is in a largest antichain, by the width of what is beside it -/
theorem zp_beside (hn : n ≤ 10) (hP : zp_Po n un) (hO : zp_Ov n un ov) {z k1 k2 : Nat} (hz : z < n) (h1 : zp_Mx n un (zb_dif (2 ^ n - 1) (un z ||| ov z ||| 2 ^ z)) False k1) (h2 : zp_Mx n un (2 ^ n - 1) False k2) : (∃ a, zp_La n un a ∧ a.testBit z = true) ↔ k1 + 1 = k2 := by
  have hbs : ∀ i, (zb_dif (2 ^ n - 1) (un z ||| ov z ||| 2 ^ z)).testBit i = true ↔ i < n ∧ ¬ (un z).testBit i = true ∧ ¬ (un i).testBit z = true ∧ i ≠ z := by
    intro i
    rw [zb_dif_iff, zb_or_iff, zb_or_iff, zb_pw_iff, zb_full_iff]
    constructor
    · rintro ⟨q1, q2⟩
      refine ⟨q1, fun q => q2 (Or.inl (Or.inl q)), fun q => q2 (Or.inl (Or.inr (((hO z hz).2 i q1).mpr q))), fun q => q2 (Or.inr q)⟩
    · rintro ⟨q1, q2, q3, q4⟩
      refine ⟨q1, ?_⟩
      rintro ((q | q) | q)
      · exact q2 q
      · exact q3 (((hO z hz).2 i q1).mp q)
      · exact q4 q
  obtain ⟨⟨p, p1, p2, p3⟩, p4⟩ := h1
  have hadd : zp_uni n un (p ||| 2 ^ z) False ∧ zb_cnt (p ||| 2 ^ z) 10 = k1 + 1 ∧ zp_sub (p ||| 2 ^ z) (2 ^ n - 1) := by
    have hd : p &&& 2 ^ z = 0 := zb_and_pow.mpr (fun q => ((hbs z).mp (p1 z q)).2.2.2 rfl)
    refine ⟨fun v hv u hu b1 b2 => ?_, by rw [zb_cnt_or hd, zb_cnt_pow (by omega), p3], fun i hi => ?_⟩
    · rw [zb_or_iff, zb_pw_iff] at b1 b2
      rcases b2 with b2 | rfl
      · rcases b1 with b1 | rfl
        · exact p2 v hv u hu b1 b2
        · rw [hP.rel hv hu]
          exact ⟨fun q => ((hbs v).mp (p1 v b2)).2.2.1 q, False.elim⟩
      · rcases b1 with b1 | rfl
        · rw [hP.rel hv hu]
          exact ⟨fun q => ((hbs u).mp (p1 u b1)).2.1 q, False.elim⟩
        · omega
    · rw [zb_or_iff, zb_pw_iff] at hi
      rw [zb_full_iff]
      rcases hi with hi | rfl
      · exact ((hbs i).mp (p1 i hi)).1
      · exact hz
  have hle := h2.2 _ hadd.2.2 hadd.1
  constructor
  · rintro ⟨a, ha, haz⟩
    rw [zp_La_iff h2] at ha
    obtain ⟨a1, a2, a3⟩ := ha
    have hs := zb_cnt_split a (2 ^ z) 10
    have h5 : zb_cnt (a &&& 2 ^ z) 10 ≤ 1 := zb_cnt_one (fun i j hi hj => by rw [(zb_pw_iff _ _).mp ((zb_and_iff _ _ _).mp hi).2, (zb_pw_iff _ _).mp ((zb_and_iff _ _ _).mp hj).2]) 10
    have h6 := p4 (zb_dif a (2 ^ z)) (fun i hi => by
      rw [zb_dif_iff, zb_pw_iff] at hi
      have hin := zb_bit_lt a1 hi.1
      rw [hbs]
      refine ⟨hin, fun q => ?_, fun q => ?_, hi.2⟩
      · have := hP.lt hz q
        exact (a2 z hz i this hi.1 haz).mp (Or.inl q)
      · have := hP.lt hin q
        exact (a2 i hin z this haz hi.1).mp (Or.inl q)) (fun v hv u hu b1 b2 => a2 v hv u hu ((zb_dif_iff _ _ _).mp b1).1 ((zb_dif_iff _ _ _).mp b2).1)
    omega
  · intro e
    refine ⟨p ||| 2 ^ z, ?_, (zb_or_iff _ _ _).mpr (Or.inr ((zb_pw_iff z z).mpr rfl))⟩
    rw [zp_La_iff h2]
    refine ⟨zb_lt_of (fun i hi => (zb_full_iff _ _).mp (hadd.2.2 i hi)), hadd.1, by omega⟩
/-- every chain of the matching meets every largest antichain -/
theorem zk_meet (hn : n ≤ 10) (hP : zp_Po n un) (hO : zp_Ov n un ov) (hM : zk_Mt n ov (2 ^ n - 1) up dn) (hOp : zk_Opt n un (2 ^ n - 1) up) {b : Nat} (hb : zp_La n un b) {v : Nat} (hv : v < n) : ∃ x, x < n ∧ b.testBit x = true ∧ zk_tp up n x = zk_tp up n v := by
  have hA : 2 ^ n - 1 < 2 ^ n := by
    have := zb_pow_pos n
    omega
  have hmx := zk_max hP hO hM hA hOp
  obtain ⟨b1, b2, b3⟩ := (zp_La_iff hmx).mp hb
  apply Classical.byContradiction
  intro hno
  have hno : ∀ x, x < n → b.testBit x = true → zk_tp up n x ≠ zk_tp up n v := fun x x1 x2 x3 => hno ⟨x, x1, x2, x3⟩
  have hcol : ∀ x, b.testBit x = true → x < n ∧ zk_tp up n x < n ∧ up (zk_tp up n x) = 0 := fun x hx => by
    have h1 := zb_bit_lt b1 hx
    have := zk_tp_top hP hO hM n x h1 (by omega)
    exact ⟨h1, this.2.1, this.1⟩
  have hinj : ∀ x y, b.testBit x = true → b.testBit y = true → zk_tp up n x = zk_tp up n y → x = y := by
    intro x y hx hy e
    have hxn := (hcol x hx).1
    have hyn := (hcol y hy).1
    rcases Nat.lt_trichotomy x y with q | q | q
    · exact ((b2 y hyn x q hx hy).mp (Or.inl (zk_fib hP hO hM q hyn e))).elim
    · exact q
    · exact ((b2 x hxn y q hy hx).mp (Or.inl (zk_fib hP hO hM q hxn e.symm))).elim
  have hT := zk_tp_top hP hO hM n v hv (by omega)
  have hc : zb_cnt b 10 ≤ zb_cnt (zb_dif (zk_set n (fun y => (2 ^ n - 1).testBit y = true ∧ up y = 0)) (2 ^ zk_tp up n v)) 10 := by
    apply zb_surj10 (col := fun t => Classical.epsilon (fun x => b.testBit x = true ∧ zk_tp up n x = t))
    intro x hx
    obtain ⟨x1, x2, x3⟩ := hcol x hx
    refine ⟨zk_tp up n x, by omega, ?_, ?_⟩
    · rw [zb_dif_iff, zk_set_bit, zb_pw_iff]
      exact ⟨⟨x2, (zb_full_iff _ _).mpr x2, x3⟩, hno x x1 hx⟩
    · have := Classical.epsilon_spec (p := fun y => b.testBit y = true ∧ zk_tp up n y = zk_tp up n x) ⟨x, hx, rfl⟩
      exact hinj _ _ this.1 hx this.2
  have hs := zb_cnt_split (zk_set n (fun y => (2 ^ n - 1).testBit y = true ∧ up y = 0)) (2 ^ zk_tp up n v) 10
  rw [← zk_t_cnt hn] at hs
  have h1 : 1 ≤ zb_cnt (zk_set n (fun y => (2 ^ n - 1).testBit y = true ∧ up y = 0) &&& 2 ^ zk_tp up n v) 10 := by
    apply zb_cnt_pos (i := zk_tp up n v) _ 10 (by omega)
    rw [zb_and_iff, zk_set_bit, zb_pw_iff]
    exact ⟨⟨hT.2.1, (zb_full_iff _ _).mpr hT.2.1, hT.1⟩, rfl⟩
  omega
theorem zk_bot (hP : zp_Po n un) (hO : zp_Ov n un ov) {A : Nat} (hM : zk_Mt n ov A up dn) : ∀ d v, v ≤ d → v < n → ∃ y, y < n ∧ dn y = 0 ∧ zk_tp up n y = zk_tp up n v := by
  intro d
  induction d with
  | zero =>
    intro v h1 h2
    refine ⟨v, h2, ?_, rfl⟩
    cases e : dn v with
    | zero => rfl
    | succ x =>
      obtain ⟨g1, g2⟩ := hM.2 v h2 x e
      have := (zk_edge hP hO hM g1 g2).2.1
      omega
  | succ d ih =>
    intro v h1 h2
    cases e : dn v with
    | zero => exact ⟨v, h2, e, rfl⟩
    | succ x =>
      obtain ⟨g1, g2⟩ := hM.2 v h2 x e
      have := (zk_edge hP hO hM g1 g2).2.1
      obtain ⟨y, y1, y2, y3⟩ := ih x (by omega) g1
      exact ⟨y, y1, y2, by rw [y3, zk_tp_step hP hO hM g1 g2]⟩
/-- U and L of lowest, closed -/
def zo_Cl (n : Nat) (un up : Nat → Nat) (U L : Nat) : Prop := (∀ x, x < n → U.testBit x = true → zp_sub (un x) L) ∧ ∀ x, x < n → L.testBit x = true → ∀ w, up x = w + 1 → U.testBit w = true
def zo_Sd (n : Nat) (un up dn : Nat → Nat) (U L : Nat) : Prop := ∀ X Y : Nat → Prop, (∀ x, x < n → dn x = 0 → X x) → (∀ x, x < n → X x → ∀ y, (un x).testBit y = true → Y y) → (∀ y, y < n → Y y → ∀ w, up y = w + 1 → X w) → (∀ x, U.testBit x = true → X x) ∧ ∀ y, L.testBit y = true → Y y
theorem zo_low (hn : n ≤ 10) (hP : zp_Po n un) (hO : zp_Ov n un ov) (hM : zk_Mt n ov (2 ^ n - 1) up dn) (hOp : zk_Opt n un (2 ^ n - 1) up) {U L : Nat} (hU : U < 2 ^ n) (h0 : ∀ x, x < n → dn x = 0 → U.testBit x = true) (hC : zo_Cl n un up U L) (hS : zo_Sd n un up dn U L) : zp_Ex n un True (zb_dif U L) := by
  have hA : 2 ^ n - 1 < 2 ^ n := by
    have := zb_pow_pos n
    omega
  have hmx := zk_max hP hO hM hA hOp
  have key : ∀ b, zp_La n un b → (∀ x, U.testBit x = true → ∃ t, t < n ∧ b.testBit t = true ∧ (x = t ∨ (un t).testBit x = true)) ∧ ∀ y, L.testBit y = true → (∃ t, t < n ∧ b.testBit t = true ∧ (un t).testBit y = true) := by
    intro b hb
    apply hS
    · intro x hx hd
      obtain ⟨t, t1, t2, t3⟩ := zk_meet hn hP hO hM hOp hb hx
      refine ⟨t, t1, t2, ?_⟩
      rcases Nat.lt_trichotomy x t with q | q | q
      · exact Or.inr (zk_fib hP hO hM q t1 t3.symm)
      · exact Or.inl q
      · obtain ⟨z, z1, -⟩ := zk_line hP hO hM n t x (by omega) q hx t3
        omega
    · rintro x hx ⟨t, t1, t2, t3⟩ y hy
      refine ⟨t, t1, t2, ?_⟩
      rcases t3 with rfl | t3
      · exact hy
      · exact hP.2 t t1 x t3 y hy
    · rintro y hy ⟨t, t1, t2, t3⟩ w hw
      obtain ⟨g1, g2, g3, g4, g5, g6⟩ := zk_edge hP hO hM hy hw
      obtain ⟨t', r1, r2, r3⟩ := zk_meet hn hP hO hM hOp hb hy
      have hb2 := hb.2.1
      have hyt : y < t' := by
        apply Classical.byContradiction
        intro hge
        have hbel : (un t).testBit t' = true := by
          by_cases e : t' = y
          · subst e; exact t3
          · exact hP.2 t t1 y t3 t' (zk_fib hP hO hM (by omega) hy r3)
        exact (hb2 t t1 t' (hP.lt t1 hbel) r2 t2).mp (Or.inl hbel)
      refine ⟨t', r1, r2, ?_⟩
      have hs := zk_tp_step hP hO hM hy hw
      rcases Nat.lt_trichotomy w t' with q | q | q
      · exact Or.inr (zk_fib hP hO hM q r1 (by rw [← hs]; exact r3.symm))
      · exact Or.inl q
      · obtain ⟨z, z1, z2, -⟩ := zk_line hP hO hM n t' w (by omega) q g1 (by rw [← hs]; exact r3)
        omega
  have hLup : ∀ y, y < n → L.testBit y = true → ¬ up y = 0 := by
    intro y hy hL e
    obtain ⟨P, p1, p2, p3⟩ := hOp
    have hPl : zp_La n un P := (zp_La_iff hmx).mpr ⟨zb_lt_of (fun i hi => (zb_full_iff _ _).mp (p1 i hi)), p2, by
      have := hmx.2 P p1 p2
      omega⟩
    obtain ⟨t, t1, t2, t3⟩ := (key P hPl).2 y hL
    obtain ⟨t', r1, r2, r3⟩ := zk_meet hn hP hO hM ⟨P, p1, p2, p3⟩ hPl hy
    rw [zk_tp_0 e] at r3
    have := (zk_tp_top hP hO hM n t' r1 (by omega)).2.2.1
    have hbel : (un t).testBit t' = true := by
      by_cases q : t' = y
      · subst q; exact t3
      · exact hP.2 t t1 y t3 t' (zk_fib hP hO hM (by omega) hy (by rw [zk_tp_0 e]; exact r3))
    exact (p2 t t1 t' (hP.lt t1 hbel) r2 t2).mp (Or.inl hbel)
  have hlt : zb_dif U L < 2 ^ n := Nat.lt_of_le_of_lt (zb_dif_le _ _) hU
  have han : zp_uni n un (zb_dif U L) False := by
    intro v hv u hu b1 b2
    rw [zb_dif_iff] at b1 b2
    rw [hP.rel hv hu]
    exact ⟨fun q => b1.2 (hC.1 v hv b2.1 u q), False.elim⟩
  have hcnt : zk_t (2 ^ n - 1) up n ≤ zb_cnt (zb_dif U L) 10 := by
    rw [zk_t_cnt hn]
    apply zb_surj10 (col := zk_tp up n)
    intro t ht
    rw [zk_set_bit] at ht
    have climb : ∀ d v, n - v ≤ d → v < n → U.testBit v = true → zk_tp up n v = t → ∃ p, p < 10 ∧ (zb_dif U L).testBit p = true ∧ zk_tp up n p = t := by
      intro d
      induction d with
      | zero => intro v h1 h2; omega
      | succ d ih =>
        intro v h1 h2 h3 h4
        by_cases e : L.testBit v = true
        · obtain ⟨w, hw⟩ : ∃ w, up v = w + 1 := ⟨up v - 1, by have := hLup v h2 e; omega⟩
          obtain ⟨g1, g2, -⟩ := zk_edge hP hO hM h2 hw
          exact ih w (by omega) g1 (hC.2 v h2 e w hw) (by rw [← zk_tp_step hP hO hM h2 hw]; exact h4)
        · exact ⟨v, by omega, (zb_dif_iff _ _ _).mpr ⟨h3, e⟩, h4⟩
    obtain ⟨y, y1, y2, y3⟩ := zk_bot hP hO hM n t (by omega) ht.1
    exact climb n y (by omega) y1 (h0 y y1 y2) (by rw [y3]; exact zk_tp_0 ht.2.2 n)
  have hla : zp_La n un (zb_dif U L) := (zp_La_iff hmx).mpr ⟨hlt, han, by
    have := hmx.2 _ (zb_sub_full hlt) han
    omega⟩
  refine ⟨hla, fun b hb => ⟨fun _ v hv h1 h2 => ?_, fun h => absurd trivial h⟩⟩
  rw [zb_dif_iff] at h1
  obtain ⟨t, t1, t2, t3⟩ := (key b hb).1 v h1.1
  rcases t3 with rfl | t3
  · exact absurd t2 h2
  · exact ⟨t, t1, t2, t3⟩
/-- L and U of highest, closed -/
def zh_Cl (n : Nat) (ov dn : Nat → Nat) (X Y : Nat) : Prop := (∀ x, x < n → X.testBit x = true → zp_sub (ov x) Y) ∧ ∀ y, y < n → Y.testBit y = true → ∀ w, dn y = w + 1 → X.testBit w = true
theorem zo_high (hn : n ≤ 10) (hP : zp_Po n un) (hO : zp_Ov n un ov) (hM : zk_Mt n ov (2 ^ n - 1) up dn) (hOp : zk_Opt n un (2 ^ n - 1) up) {U L : Nat} (hU : U < 2 ^ n) (hL : L < 2 ^ n) (h0 : ∀ x, x < n → up x = 0 → U.testBit x = true) (hC : zh_Cl n ov dn U L) (hS : zo_Sd n ov dn up U L) : zp_Ex n un False (zb_dif U L) := by
  have hA : 2 ^ n - 1 < 2 ^ n := by
    have := zb_pow_pos n
    omega
  have hmx := zk_max hP hO hM hA hOp
  have pre : ∀ b, zp_La n un b → ∀ y, y < n → (∃ t, t < n ∧ b.testBit t = true ∧ (un y).testBit t = true) → ∃ x, dn y = x + 1 ∧ x < n ∧ ∃ t, t < n ∧ b.testBit t = true ∧ (x = t ∨ (un x).testBit t = true) := by
    rintro b hb y hy ⟨t, t1, t2, t3⟩
    obtain ⟨t', r1, r2, r3⟩ := zk_meet hn hP hO hM hOp hb hy
    have hyt : t' < y := by
      apply Classical.byContradiction
      intro hge
      have hbel : (un t').testBit t = true := by
        by_cases e : t' = y
        · subst e; exact t3
        · exact hP.2 t' r1 y (zk_fib hP hO hM (by omega) r1 r3.symm) t t3
      exact (hb.2.1 t' r1 t (hP.lt r1 hbel) t2 r2).mp (Or.inl hbel)
    obtain ⟨x, x1, x2, x3⟩ := zk_line hP hO hM n t' y (by omega) hyt hy r3
    exact ⟨x, x1, (hM.2 y hy x x1).1, t', r1, r2, x3.imp Eq.symm id⟩
  have key : ∀ b, zp_La n un b → (∀ x, U.testBit x = true → ∃ t, t < n ∧ b.testBit t = true ∧ (x = t ∨ (un x).testBit t = true)) ∧ ∀ y, L.testBit y = true → (∃ t, t < n ∧ b.testBit t = true ∧ (un y).testBit t = true) := by
    intro b hb
    apply hS
    · intro x hx hd
      obtain ⟨t, t1, t2, t3⟩ := zk_meet hn hP hO hM hOp hb hx
      refine ⟨t, t1, t2, ?_⟩
      rw [zk_tp_0 hd] at t3
      have := (zk_tp_top hP hO hM n t t1 (by omega)).2.2.1
      by_cases e : x = t
      · exact Or.inl e
      · exact Or.inr (zk_fib hP hO hM (by omega) hx (by rw [zk_tp_0 hd]; exact t3))
    · rintro x hx ⟨t, t1, t2, t3⟩ y hy
      obtain ⟨g1, g2, g3⟩ := hO.lt hP hx hy
      refine ⟨t, t1, t2, ?_⟩
      rcases t3 with rfl | t3
      · exact g3
      · exact hP.2 y g1 x g3 t t3
    · intro y hy hY w hw
      obtain ⟨x, x1, -, x3⟩ := pre b hb y hy hY
      obtain rfl : x = w := by omega
      exact x3
  have hlt : zb_dif U L < 2 ^ n := Nat.lt_of_le_of_lt (zb_dif_le _ _) hU
  have han : zp_uni n un (zb_dif U L) False := by
    intro v hv u hu b1 b2
    rw [zb_dif_iff] at b1 b2
    rw [hP.rel hv hu]
    exact ⟨fun q => b2.2 (hC.1 u (by omega) b1.1 v (((hO u (by omega)).2 v hv).mpr q)), False.elim⟩
  have hcnt : zk_t (2 ^ n - 1) up n ≤ zb_cnt (zb_dif U L) 10 := by
    have hPl : ∃ P, zp_La n un P := by
      obtain ⟨P, p1, p2, p3⟩ := hOp
      exact ⟨P, (zp_La_iff hmx).mpr ⟨zb_lt_of (fun i hi => (zb_full_iff _ _).mp (p1 i hi)), p2, by
        have := hmx.2 P p1 p2
        omega⟩⟩
    obtain ⟨P, hPl⟩ := hPl
    rw [zk_t_cnt hn]
    apply zb_surj10 (col := zk_tp up n)
    intro t ht
    rw [zk_set_bit] at ht
    have climb : ∀ d v, v < d → v < n → U.testBit v = true → zk_tp up n v = t → ∃ p, p < 10 ∧ (zb_dif U L).testBit p = true ∧ zk_tp up n p = t := by
      intro d
      induction d with
      | zero => intro v h1 h2; omega
      | succ d ih =>
        intro v h1 h2 h3 h4
        by_cases e : L.testBit v = true
        · obtain ⟨x, x1, x2, -⟩ := pre P hPl v h2 ((key P hPl).2 v e)
          obtain ⟨-, w2⟩ := hM.2 v h2 x x1
          have := (zk_edge hP hO hM x2 w2).2.1
          exact ih x (by omega) x2 (hC.2 v h2 e x x1) (by rw [zk_tp_step hP hO hM x2 w2]; exact h4)
        · exact ⟨v, by omega, (zb_dif_iff _ _ _).mpr ⟨h3, e⟩, h4⟩
    exact climb n t ht.1 ht.1 (h0 t ht.1 ht.2.2) (zk_tp_0 ht.2.2 n)
  have hla : zp_La n un (zb_dif U L) := (zp_La_iff hmx).mpr ⟨hlt, han, by
    have := hmx.2 _ (zb_sub_full hlt) han
    omega⟩
  refine ⟨hla, fun b hb => ⟨fun h => h.elim, fun _ v hv h1 h2 h3 => ?_⟩⟩
  rw [zb_dif_iff] at h1
  obtain ⟨t, t1, t2, t3⟩ := (key b hb).1 v h1.1
  rcases t3 with rfl | t3
  · exact absurd t2 h2
  · exact zb_disj h3 t t3 t2
theorem zp_Ex_uniq (hP : zp_Po n un) {w : Prop} {a b : Nat} (ha : zp_Ex n un w a) (hb : zp_Ex n un w b) : a = b := by
  have sub : ∀ a b, zp_Ex n un w a → zp_Ex n un w b → ∀ v, a.testBit v = true → b.testBit v = true := by
    intro a b ha hb v hv
    have hvn := zb_bit_lt ha.1.1 hv
    apply Classical.byContradiction
    intro hn
    by_cases hw : w
    · obtain ⟨t, t1, t2, t3⟩ := (ha.2 b hb.1).1 hw v hvn hv hn
      have hvt := hP.lt t1 t3
      by_cases e : a.testBit t = true
      · exact (ha.1.2.1 t t1 v hvt hv e).mp (Or.inl t3)
      · obtain ⟨r, r1, r2, r3⟩ := (hb.2 a ha.1).1 hw t t1 t2 e
        have h4 := hP.2 r r1 t r3 v t3
        exact (ha.1.2.1 r r1 v (hP.lt r1 h4) hv r2).mp (Or.inl h4)
    · obtain ⟨t, ht⟩ := zb_ne0 ((ha.2 b hb.1).2 hw v hvn hv hn)
      rw [zb_and_iff] at ht
      have htv := hP.lt hvn ht.1
      by_cases e : a.testBit t = true
      · exact (ha.1.2.1 v hvn t htv e hv).mp (Or.inl ht.1)
      · obtain ⟨r, hr⟩ := zb_ne0 ((hb.2 a ha.1).2 hw t (by omega) ht.2 e)
        rw [zb_and_iff] at hr
        have h4 := hP.2 v hvn t ht.1 r hr.1
        exact (ha.1.2.1 v hvn r (hP.lt hvn h4) hr.2 hv).mp (Or.inl h4)
  exact zb_ext (fun i => ⟨sub a b ha hb i, sub b a hb ha i⟩)
end
end
section
/-! for the walks of matchOneMore, add, isLargest, lowest, highest: plain laws -/
def zk_MI (n : Nat) (ov : Nat → Nat) (A : Nat) (up dn : Nat → Nat) (i : Nat) : Prop := ∃ S : Nat → Prop, zk_Cl n ov A dn S ∧ ∀ x, x < i → x < n → up x = 0 → S x
theorem zk_MI_0 {n : Nat} {ov : Nat → Nat} {A : Nat} {up dn : Nat → Nat} : zk_MI n ov A up dn 0 := ⟨fun _ => False, fun _ _ h => h.elim, fun x hx => absurd hx (Nat.not_lt_zero _)⟩
theorem zk_MI_skip {n : Nat} {ov : Nat → Nat} {A : Nat} {up dn : Nat → Nat} {i : Nat} (h : zk_MI n ov A up dn i) (hu : 0 < up i) : zk_MI n ov A up dn (i + 1) := by
  obtain ⟨S, h1, h2⟩ := h
  refine ⟨S, h1, fun x hx hxn hux => ?_⟩
  by_cases e : x = i
  · subst e; omega
  · exact h2 x (by omega) hxn hux
theorem zk_MI_fail {n : Nat} {ov : Nat → Nat} {A : Nat} {up dn : Nat → Nat} {i : Nat} {u d : Nat → Nat} (h : zk_MI n ov A up dn i) (ha : zk_Au n ov A up dn i false u d) : u = up ∧ d = dn ∧ zk_MI n ov A up dn (i + 1) := by
  obtain ⟨S, h1, h2⟩ := h
  obtain ⟨rfl, rfl, S2, g1, g2, g3⟩ := ha
  refine ⟨rfl, rfl, fun x => S x ∨ S2 x, fun y hy hSy v hv hA hb => ?_, fun x hx hxn hu => ?_⟩
  · rcases hSy with q | q
    · obtain ⟨w, w1, w2, w3⟩ := h1 y hy q v hv hA hb
      exact ⟨w, w1, Or.inl w2, w3⟩
    · obtain ⟨w, w1, w2, w3⟩ := g3 y hy q v hv hA hb
      exact ⟨w, w1, Or.inr w2, w3⟩
  · by_cases e : x = i
    · subst e; exact Or.inr g1
    · exact Or.inl (h2 x (by omega) hxn hu)
theorem zk_MI_end {n : Nat} {un ov : Nat → Nat} {A : Nat} {up dn : Nat → Nat} (hn : n ≤ 10) (hP : zp_Po n un) (hO : zp_Ov n un ov) (hM : zk_Mt n ov A up dn) (h : zk_MI n ov A up dn n) : zk_Opt n un A up := by
  obtain ⟨S, h1, h2⟩ := h
  exact zk_koenig hn hP hO hM h1 (fun u hu _ => h2 u hu hu)
theorem zk_Au_opt {n : Nat} {un ov : Nat → Nat} {A : Nat} {up dn : Nat → Nat} {i : Nat} {u d : Nat → Nat} (hi : i < n) (hA : A.testBit i = true) (h0 : up i = 0) (hc : ∃ P, zp_sub P A ∧ zp_uni n un P False ∧ zk_t A up n ≤ zb_cnt P 10 + 1) (ha : zk_Au n ov A up dn i true u d) : zk_Mt n ov A u d ∧ zk_Opt n un A u := by
  obtain ⟨g1, g2, g3⟩ := ha
  obtain ⟨P, p1, p2, p3⟩ := hc
  have := zk_t_TF hA h0 n g2
  rw [if_pos hi] at this
  exact ⟨g1, P, p1, p2, by omega⟩
theorem zp_anti_iff {n : Nat} {un : Nat → Nat} {a : Nat} (hP : zp_Po n un) : zp_uni n un a False ↔ ∀ v, v < n → a.testBit v = true → un v &&& a = 0 := by
  constructor
  · intro h v hv ha
    apply zb_disj'
    intro i h1 h2
    exact (h v hv i (hP.lt hv h1) h2 ha).mp (Or.inl h1)
  · intro h v hv u hu h1 h2
    rw [hP.rel hv hu]
    exact ⟨fun q => zb_disj (h v hv h2) u q h1, False.elim⟩
/-- what stands at element v of a round of lowest -/
def zo_R (n : Nat) (un up dn : Nat → Nat) (U0 L0 v U L : Nat) : Prop := (zp_sub U0 U ∧ zp_sub L0 L ∧ U < 2 ^ n ∧ L < 2 ^ n) ∧ (∀ x, x < v → U.testBit x = true → zp_sub (un x) L) ∧ (∀ x, x < v → L0.testBit x = true → ∀ w, up x = w + 1 → U.testBit w = true) ∧ zo_Sd n un up dn U L ∧ (zo_Cl n un up U0 L0 → U = U0 ∧ L = L0)
theorem zo_R_0 {n : Nat} {un up dn : Nat → Nat} {U L : Nat} (h1 : U < 2 ^ n) (h2 : L < 2 ^ n) (h3 : zo_Sd n un up dn U L) : zo_R n un up dn U L 0 U L := ⟨⟨zp_sub_refl _, zp_sub_refl _, h1, h2⟩, fun x hx => absurd hx (Nat.not_lt_zero _), fun x hx => absurd hx (Nat.not_lt_zero _), h3, fun _ => ⟨rfl, rfl⟩⟩
/-- the first half of a step: L |= un v if v is in U -/
theorem zo_R_a {n : Nat} {un up dn : Nat → Nat} {U0 L0 v U L : Nat} (hP : zp_Po n un) (hv : v < n) (h : zo_R n un up dn U0 L0 v U L) (hU : U.testBit v = true) : zo_R n un up dn U0 L0 v U (L ||| un v) ∧ zp_sub (un v) (L ||| un v) := by
  obtain ⟨⟨h1, h2, h3, h4⟩, h5, h6, h7, h8⟩ := h
  refine ⟨⟨⟨h1, fun i hi => (zb_or_iff _ _ _).mpr (Or.inl (h2 i hi)), h3, zb_lt_of fun i hi => ?_⟩, fun x hx hb i hi => (zb_or_iff _ _ _).mpr (Or.inl (h5 x hx hb i hi)), h6, fun X Y a b c => ?_, fun hc => ?_⟩, fun i hi => (zb_or_iff _ _ _).mpr (Or.inr hi)⟩
  · rcases (zb_or_iff _ _ _).mp hi with q | q
    · exact zb_bit_lt h4 q
    · have := hP.lt hv q
      omega
  · obtain ⟨k1, k2⟩ := h7 X Y a b c
    exact ⟨k1, fun y hy => ((zb_or_iff _ _ _).mp hy).elim (k2 y) (fun q => b v hv (k1 v hU) y q)⟩
  · obtain ⟨rfl, rfl⟩ := h8 hc
    refine ⟨rfl, zb_ext fun i => ?_⟩
    rw [zb_or_iff]
    exact ⟨fun q => q.elim id (hc.1 v hv hU i), Or.inl⟩
/-- the second half -/
theorem zo_R_b {n : Nat} {un up dn : Nat → Nat} {U0 L0 v U L w : Nat} (hv : v < n) (h : zo_R n un up dn U0 L0 v U L) (ha : U.testBit v = true → zp_sub (un v) L) (hL : L.testBit v = true) (hw : up v = w + 1) (hwn : w < n) (hvw : v < w) : zo_R n un up dn U0 L0 (v + 1) (U ||| 2 ^ w) L := by
  obtain ⟨⟨h1, h2, h3, h4⟩, h5, h6, h7, h8⟩ := h
  refine ⟨⟨fun i hi => (zb_or_iff _ _ _).mpr (Or.inl (h1 i hi)), h2, zb_lt_of fun i hi => ?_, h4⟩, fun x hx hb => ?_, fun x hx hb y hy => ?_, fun X Y a b c => ?_, fun hc => ?_⟩
  · rw [zb_or_iff, zb_pw_iff] at hi
    rcases hi with q | rfl
    · exact zb_bit_lt h3 q
    · exact hwn
  · rw [zb_or_iff, zb_pw_iff] at hb
    rcases hb with q | q
    · by_cases e : x = v
      · subst e; exact ha q
      · exact h5 x (by omega) q
    · omega
  · rw [zb_or_iff, zb_pw_iff]
    by_cases e : x = v
    · subst e
      exact Or.inr (by omega)
    · exact Or.inl (h6 x (by omega) hb y hy)
  · obtain ⟨k1, k2⟩ := h7 X Y a b c
    refine ⟨fun x hx => ?_, k2⟩
    rw [zb_or_iff, zb_pw_iff] at hx
    rcases hx with q | rfl
    · exact k1 x q
    · exact c v hv (k2 v hL) x hw
  · obtain ⟨rfl, rfl⟩ := h8 hc
    refine ⟨zb_ext fun i => ?_, rfl⟩
    rw [zb_or_iff, zb_pw_iff]
    refine ⟨fun q => q.elim id ?_, Or.inl⟩
    rintro rfl
    exact hc.2 v hv hL i hw
theorem zo_R_c {n : Nat} {un up dn : Nat → Nat} {U0 L0 v U L : Nat} (h : zo_R n un up dn U0 L0 v U L) (ha : U.testBit v = true → zp_sub (un v) L) (hn : L.testBit v = true → up v = 0) : zo_R n un up dn U0 L0 (v + 1) U L := by
  obtain ⟨⟨h1, h2, h3, h4⟩, h5, h6, h7, h8⟩ := h
  refine ⟨⟨h1, h2, h3, h4⟩, fun x hx hb => ?_, fun x hx hb y hy => ?_, h7, h8⟩
  · by_cases e : x = v
    · subst e; exact ha hb
    · exact h5 x (by omega) hb
  · by_cases e : x = v
    · subst e
      have := hn (h2 x hb)
      omega
    · exact h6 x (by omega) hb y hy
def zo_O (n : Nat) (un up dn : Nat → Nat) (r U L : Nat) : Prop := (∀ x, x < n → dn x = 0 → U.testBit x = true) ∧ U < 2 ^ n ∧ L < 2 ^ n ∧ zo_Sd n un up dn U L ∧ (zo_Cl n un up U L ∨ r ≤ zb_cnt L 10)
theorem zo_O_next {n : Nat} {un up dn : Nat → Nat} {r U0 L0 U L : Nat} (hn : n ≤ 10) (h : zo_O n un up dn r U0 L0) (hR : zo_R n un up dn U0 L0 n U L) : zo_O n un up dn (r + 1) U L := by
  obtain ⟨a1, a2, a3, a4, a5⟩ := h
  obtain ⟨⟨h1, h2, h3, h4⟩, h5, h6, h7, h8⟩ := hR
  refine ⟨fun x hx hd => h1 x (a1 x hx hd), h3, h4, h7, ?_⟩
  by_cases hc : zo_Cl n un up U0 L0
  · obtain ⟨rfl, rfl⟩ := h8 hc
    exact Or.inl hc
  · by_cases e : L = L0
    · subst e
      exact Or.inl ⟨h5, h6⟩
    · right
      have hr := a5.resolve_left hc
      have : ∃ i, L.testBit i = true ∧ ¬ L0.testBit i = true := by
        apply Classical.byContradiction
        intro q
        apply e
        apply zb_ext
        intro i
        refine ⟨fun z => ?_, h2 i⟩
        apply Classical.byContradiction
        exact fun y => q ⟨i, z, y⟩
      obtain ⟨i, i1, i2⟩ := this
      have hin := zb_bit_lt h4 i1
      have hd : L0 &&& 2 ^ i = 0 := zb_and_pow.mpr i2
      have hc := zb_cnt_or hd 10
      rw [zb_cnt_pow (by omega)] at hc
      have := zb_cnt_mono (p := L0 ||| 2 ^ i) (a := L) (fun j hj => by
        rw [zb_or_iff, zb_pw_iff] at hj
        rcases hj with q | rfl
        · exact h2 j q
        · exact i1) 10
      omega
theorem zo_O_end {n : Nat} {un up dn : Nat → Nat} {U L : Nat} (hn : n ≤ 10) (h : zo_O n un up dn (n + 1) U L) : zo_Cl n un up U L := by
  obtain ⟨a1, a2, a3, a4, a5⟩ := h
  apply a5.resolve_right
  have := zb_cnt_mono (zb_sub_full a3) 10
  rw [zb_cnt_full hn] at this
  omega
/-- what stands at element v of a round of highest -/
def zh_R (n : Nat) (ov dn up : Nat → Nat) (X0 Y0 v X Y : Nat) : Prop := (zp_sub X0 X ∧ zp_sub Y0 Y ∧ X < 2 ^ n ∧ Y < 2 ^ n) ∧ (∀ x, x < v → X0.testBit x = true → zp_sub (ov x) Y) ∧ (∀ y, y < v → Y.testBit y = true → ∀ w, dn y = w + 1 → X.testBit w = true) ∧ zo_Sd n ov dn up X Y ∧ (zh_Cl n ov dn X0 Y0 → X = X0 ∧ Y = Y0)
theorem zh_R_0 {n : Nat} {ov dn up : Nat → Nat} {U L : Nat} (h1 : U < 2 ^ n) (h2 : L < 2 ^ n) (h3 : zo_Sd n ov dn up U L) : zh_R n ov dn up U L 0 U L := ⟨⟨zp_sub_refl _, zp_sub_refl _, h1, h2⟩, fun x hx => absurd hx (Nat.not_lt_zero _), fun x hx => absurd hx (Nat.not_lt_zero _), h3, fun _ => ⟨rfl, rfl⟩⟩
theorem zh_R_a {n : Nat} {ov dn up : Nat → Nat} {X0 Y0 v X Y : Nat} (hlt : ∀ y, (ov v).testBit y = true → v < y ∧ y < n) (hv : v < n) (h : zh_R n ov dn up X0 Y0 v X Y) (hX : X.testBit v = true) : zh_R n ov dn up X0 Y0 v X (Y ||| ov v) ∧ zp_sub (ov v) (Y ||| ov v) := by
  obtain ⟨⟨h1, h2, h3, h4⟩, h5, h6, h7, h8⟩ := h
  refine ⟨⟨⟨h1, fun i hi => (zb_or_iff _ _ _).mpr (Or.inl (h2 i hi)), h3, zb_lt_of fun i hi => ?_⟩, fun x hx hb i hi => (zb_or_iff _ _ _).mpr (Or.inl (h5 x hx hb i hi)), fun y hy hb => ?_, fun A B a b c => ?_, fun hc => ?_⟩, fun i hi => (zb_or_iff _ _ _).mpr (Or.inr hi)⟩
  · rcases (zb_or_iff _ _ _).mp hi with q | q
    · exact zb_bit_lt h4 q
    · exact (hlt i q).2
  · rcases (zb_or_iff _ _ _).mp hb with q | q
    · exact h6 y hy q
    · have := (hlt y q).1
      omega
  · obtain ⟨k1, k2⟩ := h7 A B a b c
    exact ⟨k1, fun y hy => ((zb_or_iff _ _ _).mp hy).elim (k2 y) (fun q => b v hv (k1 v hX) y q)⟩
  · obtain ⟨rfl, rfl⟩ := h8 hc
    refine ⟨rfl, zb_ext fun i => ?_⟩
    rw [zb_or_iff]
    exact ⟨fun q => q.elim id (hc.1 v hv hX i), Or.inl⟩
theorem zh_R_b {n : Nat} {ov dn up : Nat → Nat} {X0 Y0 v X Y w : Nat} (hv : v < n) (h : zh_R n ov dn up X0 Y0 v X Y) (ha : X.testBit v = true → zp_sub (ov v) Y) (hY : Y.testBit v = true) (hw : dn v = w + 1) (hwn : w < n) : zh_R n ov dn up X0 Y0 (v + 1) (X ||| 2 ^ w) Y := by
  obtain ⟨⟨h1, h2, h3, h4⟩, h5, h6, h7, h8⟩ := h
  refine ⟨⟨fun i hi => (zb_or_iff _ _ _).mpr (Or.inl (h1 i hi)), h2, zb_lt_of fun i hi => ?_, h4⟩, fun x hx hb => ?_, fun y hy hb z hz => ?_, fun A B a b c => ?_, fun hc => ?_⟩
  · rw [zb_or_iff, zb_pw_iff] at hi
    rcases hi with q | rfl
    · exact zb_bit_lt h3 q
    · exact hwn
  · by_cases e : x = v
    · subst e; exact ha (h1 x hb)
    · exact h5 x (by omega) hb
  · rw [zb_or_iff, zb_pw_iff]
    by_cases e : y = v
    · subst e
      exact Or.inr (by omega)
    · exact Or.inl (h6 y (by omega) hb z hz)
  · obtain ⟨k1, k2⟩ := h7 A B a b c
    refine ⟨fun x hx => ?_, k2⟩
    rw [zb_or_iff, zb_pw_iff] at hx
    rcases hx with q | rfl
    · exact k1 x q
    · exact c v hv (k2 v hY) x hw
  · obtain ⟨rfl, rfl⟩ := h8 hc
    refine ⟨zb_ext fun i => ?_, rfl⟩
    rw [zb_or_iff, zb_pw_iff]
    refine ⟨fun q => q.elim id ?_, Or.inl⟩
    rintro rfl
    exact hc.2 v hv hY i hw
theorem zh_R_c {n : Nat} {ov dn up : Nat → Nat} {X0 Y0 v X Y : Nat} (h : zh_R n ov dn up X0 Y0 v X Y) (ha : X.testBit v = true → zp_sub (ov v) Y) (hn : Y.testBit v = true → dn v = 0) : zh_R n ov dn up X0 Y0 (v + 1) X Y := by
  obtain ⟨⟨h1, h2, h3, h4⟩, h5, h6, h7, h8⟩ := h
  refine ⟨⟨h1, h2, h3, h4⟩, fun x hx hb => ?_, fun y hy hb z hz => ?_, h7, h8⟩
  · by_cases e : x = v
    · subst e; exact ha (h1 x hb)
    · exact h5 x (by omega) hb
  · by_cases e : y = v
    · subst e
      have := hn hb
      omega
    · exact h6 y (by omega) hb z hz
def zh_O (n : Nat) (ov dn up : Nat → Nat) (r X Y : Nat) : Prop := (∀ x, x < n → up x = 0 → X.testBit x = true) ∧ X < 2 ^ n ∧ Y < 2 ^ n ∧ zo_Sd n ov dn up X Y ∧ (zh_Cl n ov dn X Y ∨ r ≤ zb_cnt X 10)
theorem zh_O_next {n : Nat} {ov dn up : Nat → Nat} {r X0 Y0 X Y : Nat} (hn : n ≤ 10) (h : zh_O n ov dn up r X0 Y0) (hR : zh_R n ov dn up X0 Y0 n X Y) : zh_O n ov dn up (r + 1) X Y := by
  obtain ⟨a1, a2, a3, a4, a5⟩ := h
  obtain ⟨⟨h1, h2, h3, h4⟩, h5, h6, h7, h8⟩ := hR
  refine ⟨fun x hx hd => h1 x (a1 x hx hd), h3, h4, h7, ?_⟩
  by_cases hc : zh_Cl n ov dn X0 Y0
  · obtain ⟨rfl, rfl⟩ := h8 hc
    exact Or.inl hc
  · by_cases e : X = X0
    · subst e
      exact Or.inl ⟨h5, h6⟩
    · right
      have hr := a5.resolve_left hc
      have : ∃ i, X.testBit i = true ∧ ¬ X0.testBit i = true := by
        apply Classical.byContradiction
        intro q
        apply e
        apply zb_ext
        intro i
        refine ⟨fun z => ?_, h1 i⟩
        apply Classical.byContradiction
        exact fun y => q ⟨i, z, y⟩
      obtain ⟨i, i1, i2⟩ := this
      have hin := zb_bit_lt h3 i1
      have hd : X0 &&& 2 ^ i = 0 := zb_and_pow.mpr i2
      have hc := zb_cnt_or hd 10
      rw [zb_cnt_pow (by omega)] at hc
      have := zb_cnt_mono (p := X0 ||| 2 ^ i) (a := X) (fun j hj => by
        rw [zb_or_iff, zb_pw_iff] at hj
        rcases hj with q | rfl
        · exact h1 j q
        · exact i1) 10
      omega
theorem zh_O_end {n : Nat} {ov dn up : Nat → Nat} {X Y : Nat} (hn : n ≤ 10) (h : zh_O n ov dn up (n + 1) X Y) : zh_Cl n ov dn X Y := by
  obtain ⟨a1, a2, a3, a4, a5⟩ := h
  apply a5.resolve_right
  have := zb_cnt_mono (zb_sub_full a2) 10
  rw [zb_cnt_full hn] at this
  omega
/-- the first sets of lowest and highest -/
def zo_i (n : Nat) (dn : Nat → Nat) (i U : Nat) : Prop := ∀ x, U.testBit x = true ↔ x < i ∧ x < n ∧ dn x = 0
theorem zo_i_0 (n : Nat) (dn : Nat → Nat) : zo_i n dn 0 0 := by
  intro x
  rw [zb_0_iff]
  exact ⟨False.elim, fun h => absurd h.1 (Nat.not_lt_zero _)⟩
theorem zo_i_y {n : Nat} {dn : Nat → Nat} {i U : Nat} (h : zo_i n dn i U) (hi : i < n) (hd : dn i = 0) : zo_i n dn (i + 1) (U ||| 2 ^ i) := by
  intro x
  rw [zb_or_iff, zb_pw_iff, h x]
  constructor
  · rintro (q | rfl)
    · exact ⟨by omega, q.2⟩
    · exact ⟨by omega, hi, hd⟩
  · rintro ⟨q1, q2, q3⟩
    by_cases e : x = i
    · exact Or.inr e
    · exact Or.inl ⟨by omega, q2, q3⟩
theorem zo_i_n {n : Nat} {dn : Nat → Nat} {i U : Nat} (h : zo_i n dn i U) (hd : 0 < dn i) : zo_i n dn (i + 1) U := by
  intro x
  rw [h x]
  constructor
  · rintro ⟨q1, q2, q3⟩
    exact ⟨by omega, q2, q3⟩
  · rintro ⟨q1, q2, q3⟩
    refine ⟨?_, q2, q3⟩
    by_cases e : x = i
    · subst e; omega
    · omega
theorem zo_O_0 {n : Nat} {un up dn : Nat → Nat} {U : Nat} (h : zo_i n dn n U) : zo_O n un up dn 0 U 0 := by
  refine ⟨fun x hx hd => (h x).mpr ⟨hx, hx, hd⟩, zb_lt_of fun i hi => ((h i).mp hi).1, Nat.two_pow_pos _, fun X Y a b c => ⟨fun x hx => ?_, fun y hy => ?_⟩, Or.inr (Nat.zero_le _)⟩
  · have := (h x).mp hx
    exact a x this.1 this.2.2
  · rw [zb_0_iff] at hy
    exact hy.elim
theorem zh_O_0 {n : Nat} {ov dn up : Nat → Nat} {U : Nat} (h : zo_i n up n U) : zh_O n ov dn up 0 U 0 := by
  obtain ⟨h1, h2, h3, h4, -⟩ := zo_O_0 (un := ov) (up := dn) h
  exact ⟨h1, h2, h3, h4, Or.inr (Nat.zero_le _)⟩
theorem zk_Sd_out {n : Nat} {un up dn : Nat → Nat} {U L : Nat} (h : zo_Sd n un up dn U L) : zo_Sd n un up dn U L := h
end
section
set_option maxRecDepth 100000
theorem zx_eq.rfl' (s : zS) : zx_eq s s := ⟨rfl, rfl, rfl⟩
theorem zx_eq.trans {a b c : zS} (h1 : zx_eq a b) (h2 : zx_eq b c) : zx_eq a c := ⟨h2.1.trans h1.1, h2.2.1.trans h1.2.1, h2.2.2.trans h1.2.2⟩
theorem zx_full {n : Nat} (hn : n ≤ 10) : 2 ^ n - 1 < 2 ^ n ∧ 2 ^ n ≤ 1024 := ⟨by have := zb_pow_pos n; omega, zp_p10 hn⟩
theorem zk_c_le (up : Nat → Nat) (n : Nat) : zk_c up n ≤ n := by
  induction n with
  | zero => exact Nat.le_refl _
  | succ n ih =>
    rw [zk_c]
    by_cases h : up n = 0
    · rw [if_pos h]; omega
    · rw [if_neg h]; omega
theorem zk_c_z {up : Nat → Nat} {n : Nat} (h : up n = 0) : zk_c up (n + 1) = zk_c up n := by rw [zk_c, if_pos h]
theorem zk_c_s {up : Nat → Nat} {n : Nat} (h : 0 < up n) : zk_c up (n + 1) = zk_c up n + 1 := by rw [zk_c, if_neg (by omega)]
theorem zk_t_y {A : Nat} {up : Nat → Nat} {n : Nat} (h1 : A.testBit n = true) (h : up n = 0) : zk_t A up (n + 1) = zk_t A up n + 1 := by rw [zk_t, if_pos ⟨h1, h⟩]
theorem zk_t_n {A : Nat} {up : Nat → Nat} {n : Nat} (h : A.testBit n = true → 0 < up n) : zk_t A up (n + 1) = zk_t A up n := by
  rw [zk_t, if_neg (fun z => by have := h z.1; omega)]
set_option maxHeartbeats 4000000 in
/-- matchAll() -/
theorem mX_matchAll (l : Launch) (s : zS) (hI : zx_I s) : zc_M l zc_XL yX0_matchAll cX0_matchAll 1 3 75 none [] s (fun v s' => v = none ∧ zx_eq s s' ∧ zx_I s' ∧ zk_Mt (s 0 0) (s 2) (2 ^ s 0 0 - 1) (s' 5) (s' 6) ∧ zk_Opt (s 0 0) (s 1) (2 ^ s 0 0 - 1) (s' 5)) := by
  refine zc_M.of (own := RX0) rfl rfl (fun _ => Nat.le_of_ble_eq_true rfl) ?_
  intro q ca G hG
  show G s 0 [(0, .ref (q 0))] []
  obtain ⟨hg, h01, hk⟩ := id hI
  have hn := hg.1
  have hf := zx_full hn
  have hp := zb_pow_pos (s 0 0)
  refine g_aload_n hG dX0_matchAll_0 rfl 0 rfl ?_
  refine x_get (s := s) (v := .int (nI (s 0 1))) hG 3 (by decide) rfl q39 rfl dX0_matchAll_1 ?_
  refine g_z_eq (tgt := 12) hG dX0_matchAll_4 (by decide) (by omega) (fun h1 => ?_) (fun h1 => ?_)
  · refine g_aload_n hG dX0_matchAll_12 rfl 0 rfl ?_
    refine g_iconst (v := nI 1) hG dX0_matchAll_13 rfl ?_
    refine g_aload_n hG dX0_matchAll_14 rfl 0 rfl ?_
    refine x_get (s := s) (v := .int (nI (s 0 0))) hG 0 (by decide) rfl q36 rfl dX0_matchAll_15 ?_
    refine g_ishl (z := nI (2 ^ (s 0 0))) hG dX0_matchAll_18 (nx_shl1 (s 0 0) (by omega)) ?_
    refine g_iconst (v := nI 1) hG dX0_matchAll_19 rfl ?_
    refine g_isub (z := nI ((2 ^ (s 0 0)) - 1)) hG dX0_matchAll_20 (pk_sub (by omega)) ?_
    refine g_call hG (mX_pairUp l s (2 ^ s 0 0 - 1) hg hf.1) 1 q144 q146 qs12 q26 q147 (by decide +kernel) rfl ⟨by decide, by decide⟩ (ci := 0) rfl rfl rfl [] rfl (by simp [Value.category]) dX0_matchAll_21 ?_
    rintro _ _ ⟨rfl, f, g, u, d, rfl, hM, hOp⟩
    show G (zc_ar (zc_ar (zc_ar (zc_ar s 7 f) 8 g) 5 u) 6 d) 24 [(0, .ref (q 0))] []
    refine g_aload_n hG dX0_matchAll_24 rfl 0 rfl ?_
    refine g_call hG (mX_storeKept l (zx_4 s f g u d) hn (fun j hj => by have := hM.le (show j < s 0 0 from hj); exact ⟨by show u j ≤ 10; omega, by show d j ≤ 10; omega⟩)) 0 q96 q98 qs5 q26 q99 (by decide +kernel) rfl ⟨by decide, by decide⟩ (ci := 0) rfl rfl rfl [] rfl (by simp [Value.category]) dX0_matchAll_25 ?_
    rintro _ _ ⟨rfl, rfl⟩
    show G (zc_ar (zc_ar (zc_ar (zc_ar (zc_ar (zc_ar s 7 f) 8 g) 5 u) 6 d) 3 (zx_mix (s 0 0) u (s 3))) 4 (zx_mix (s 0 0) d (s 4))) 28 [(0, .ref (q 0))] []
    refine g_aload_n hG dX0_matchAll_28 rfl 0 rfl ?_
    refine g_iconst (v := nI 1) hG dX0_matchAll_29 rfl ?_
    refine x_puta hG (by decide) dX0_matchAll_30 ?_
    exact g_vret hG rfl dX0_matchAll_33 (⟨rfl, ⟨rfl, rfl, rfl⟩, ⟨hg, Or.inr rfl, fun _ => ⟨zk_Mt_congr (fun j hj => ⟨zx_mix_lt hj, zx_mix_lt hj⟩) hM, zk_Opt_congr (fun j hj => zx_mix_lt hj) hOp⟩⟩, hM, hOp⟩)
  · obtain ⟨hM, hOp⟩ := hk (by omega)
    refine g_aload_n hG dX0_matchAll_7 rfl 0 rfl ?_
    refine g_call hG (mX_loadKept l s hn (fun j hj => by have := hM.le hj; omega)) 0 q84 q86 qs2 q26 q87 (by decide +kernel) rfl ⟨by decide, by decide⟩ (ci := 0) rfl rfl rfl [] rfl (by simp [Value.category]) dX0_matchAll_8 ?_
    rintro _ _ ⟨rfl, rfl⟩
    show G (zc_ar (zc_ar s 5 (zx_mix (s 0 0) (s 3) (s 5))) 6 (zx_mix (s 0 0) (s 4) (s 6))) 11 [(0, .ref (q 0))] []
    exact g_vret hG rfl dX0_matchAll_11 (⟨rfl, ⟨rfl, rfl, rfl⟩, hI, zk_Mt_congr (fun j hj => ⟨zx_mix_lt hj, zx_mix_lt hj⟩) hM, zk_Opt_congr (fun j hj => zx_mix_lt hj) hOp⟩)
set_option maxHeartbeats 4000000 in
/-- couplesWithin(A) -/
theorem mX_couplesWithin (l : Launch) (s : zS) (A : Nat) (hI : zx_I s) (hA : A < 2 ^ s 0 0) : zc_M l zc_XL yX0_couplesWithin cX0_couplesWithin 4 4 95 (some .int) [.int (nI A)] s (fun v s' => v = some (.int (nI (zk_c (s' 5) (s 0 0)))) ∧ zx_eq s s' ∧ zx_I s' ∧ zk_Mt (s 0 0) (s 2) A (s' 5) (s' 6) ∧ zk_Opt (s 0 0) (s 1) A (s' 5)) := by
  refine zc_M.of (own := RX0) rfl rfl (fun _ => Nat.le_of_ble_eq_true rfl) ?_
  intro q ca G hG
  show G s 0 [(0, .ref (q 0)), (1, .int (nI A))] []
  obtain ⟨hg, h01, hk⟩ := id hI
  have hn := hg.1
  have hf := zx_full hn
  have hp := zb_pow_pos (s 0 0)
  have tl : ∀ s1, zx_eq s s1 → zx_I s1 → zk_Mt (s 0 0) (s 2) A (s1 5) (s1 6) → zk_Opt (s 0 0) (s 1) A (s1 5) → G s1 24 [(0, .ref (q 0)), (1, .int (nI A))] [] := by
    intro s1 hq hI1 hM hOp
    have hq0 := hq.1
    have lp : ∀ (k : Nat) (i c : Nat), i ≤ s1 0 0 → s1 0 0 + 1 ≤ i + k → c = zk_c (s1 5) i → G s1 28 [(0, .ref (q 0)), (1, .int (nI A)), (2, .int (nI c)), (3, .int (nI i))] [] := by
      intro k
      induction k with
      | zero => intros; omega
      | succ k ih =>
        intro i c hi hk hc
        refine g_iload_n hG dX0_couplesWithin_28 rfl 3 rfl ?_
        refine g_aload_n hG dX0_couplesWithin_29 rfl 0 rfl ?_
        refine x_get (s := s1) (v := .int (nI (s1 0 0))) hG 0 (by decide) rfl q36 rfl dX0_couplesWithin_30 ?_
        refine g_n_ge (tgt := 54) hG dX0_couplesWithin_33 (by decide) (by omega) (by omega) (fun h1 => ?_) (fun h1 => ?_)
        · obtain rfl : i = s1 0 0 := by omega
          refine g_iload_n hG dX0_couplesWithin_54 rfl 2 rfl ?_
          exact g_iret hG rfl (rfl) dX0_couplesWithin_55 (⟨by rw [hc, hq0], hq, hI1, hM, hOp⟩)
        · have hb8 := (hM.le (show i < s 0 0 by omega)).1
          refine g_aload_n hG dX0_couplesWithin_36 rfl 0 rfl ?_
          refine x_get (s := s1) (v := .ref (q 5)) hG 6 (by decide) rfl q42 rfl dX0_couplesWithin_37 ?_
          refine g_iload_n hG dX0_couplesWithin_40 rfl 3 rfl ?_
          refine g_bldp (s := s1) (f := s1 5) (v := i) hG 5 rfl rfl (by omega) (by decide) dX0_couplesWithin_41 ?_
          refine g_p_lt (tgt := 48) hG dX0_couplesWithin_42 (by decide) (by omega) (fun h2 => ?_) (fun h2 => ?_)
          · refine g_iinc (v := nI (i + 1)) (lv' := [(0, .ref (q 0)), (1, .int (nI A)), (2, .int (nI c)), (3, .int (nI (i + 1)))]) hG dX0_couplesWithin_48 3 rfl (nI_add _ _) (by decide) [1, 2, 3, 0] rfl ?_
            refine g_goto (tgt := 28) hG dX0_couplesWithin_51 (by decide) ?_
            exact ih (i + 1) c (by omega) (by omega) (by rw [hc, zk_c_z h2])
          · refine g_iinc (v := nI (c + 1)) (lv' := [(0, .ref (q 0)), (1, .int (nI A)), (2, .int (nI (c + 1))), (3, .int (nI i))]) hG dX0_couplesWithin_45 2 rfl (nI_add _ _) (by decide) [1, 2, 0, 3] rfl ?_
            refine g_iinc (v := nI (i + 1)) (lv' := [(0, .ref (q 0)), (1, .int (nI A)), (2, .int (nI (c + 1))), (3, .int (nI (i + 1)))]) hG dX0_couplesWithin_48 3 rfl (nI_add _ _) (by decide) [1, 2, 3, 0] rfl ?_
            refine g_goto (tgt := 28) hG dX0_couplesWithin_51 (by decide) ?_
            exact ih (i + 1) (c + 1) (by omega) (by omega) (by rw [hc, zk_c_s h2])
    refine g_iconst (v := nI 0) hG dX0_couplesWithin_24 rfl ?_
    refine g_istore_n (lv' := [(0, .ref (q 0)), (1, .int (nI A)), (2, .int (nI 0))]) hG dX0_couplesWithin_25 rfl (by decide) [1, 2, 0] rfl ?_
    refine g_iconst (v := nI 0) hG dX0_couplesWithin_26 rfl ?_
    refine g_istore_n (lv' := [(0, .ref (q 0)), (1, .int (nI A)), (2, .int (nI 0)), (3, .int (nI 0))]) hG dX0_couplesWithin_27 rfl (by decide) [1, 2, 3, 0] rfl ?_
    exact lp (s1 0 0 + 1) 0 0 (by omega) (by omega) rfl
  refine g_iload_n hG dX0_couplesWithin_0 rfl 1 rfl ?_
  refine g_iconst (v := nI 1) hG dX0_couplesWithin_1 rfl ?_
  refine g_aload_n hG dX0_couplesWithin_2 rfl 0 rfl ?_
  refine x_get (s := s) (v := .int (nI (s 0 0))) hG 0 (by decide) rfl q36 rfl dX0_couplesWithin_3 ?_
  refine g_ishl (z := nI (2 ^ (s 0 0))) hG dX0_couplesWithin_6 (nx_shl1 (s 0 0) (by omega)) ?_
  refine g_iconst (v := nI 1) hG dX0_couplesWithin_7 rfl ?_
  refine g_isub (z := nI ((2 ^ (s 0 0)) - 1)) hG dX0_couplesWithin_8 (pk_sub (by omega)) ?_
  refine g_n_ne (tgt := 19) hG dX0_couplesWithin_9 (by decide) (by omega) (by omega) (fun h1 => ?_) (fun h1 => ?_)
  · refine g_aload_n hG dX0_couplesWithin_19 rfl 0 rfl ?_
    refine g_iload_n hG dX0_couplesWithin_20 rfl 1 rfl ?_
    refine g_call hG (mX_pairUp l s A hg hA) 1 q144 q146 qs12 q26 q147 (by decide +kernel) rfl ⟨by decide, by decide⟩ (ci := 0) rfl rfl rfl [] rfl (by simp [Value.category]) dX0_couplesWithin_21 ?_
    rintro _ _ ⟨rfl, f, g, u, d, rfl, hM, hOp⟩
    show G (zc_ar (zc_ar (zc_ar (zc_ar s 7 f) 8 g) 5 u) 6 d) 24 [(0, .ref (q 0)), (1, .int (nI A))] []
    exact tl _ ⟨rfl, rfl, rfl⟩ hI hM hOp
  · subst h1
    refine g_aload_n hG dX0_couplesWithin_12 rfl 0 rfl ?_
    refine g_call hG (mX_matchAll l s hI) 0 q140 q142 qs11 q26 q143 (by decide +kernel) rfl ⟨by decide, by decide⟩ (ci := 0) rfl rfl rfl [] rfl (by simp [Value.category]) dX0_couplesWithin_13 ?_
    rintro _ s1 ⟨rfl, hq, hI1, hM, hOp⟩
    show G s1 16 [(0, .ref (q 0)), (1, .int (nI (2 ^ s 0 0 - 1)))] []
    refine g_goto (tgt := 24) hG dX0_couplesWithin_16 (by decide) ?_
    exact tl s1 hq hI1 hM hOp
set_option maxHeartbeats 4000000 in
/-- matchOneMore() -/
theorem mX_matchOneMore (l : Launch) (s : zS) (hg : zx_G s) (hM : zk_Mt (s 0 0) (s 2) (2 ^ s 0 0 - 1) (s 3) (s 4)) (hc : ∃ P, zp_sub P (2 ^ s 0 0 - 1) ∧ zp_uni (s 0 0) (s 1) P False ∧ zk_t (2 ^ s 0 0 - 1) (s 3) (s 0 0) ≤ zb_cnt P 10 + 1) : zc_M l zc_XL yX0_matchOneMore cX0_matchOneMore 4 2 53 none [] s (fun v s' => v = none ∧ zx_eq s s' ∧ s' 0 1 = s 0 1 ∧ zk_Mt (s 0 0) (s 2) (2 ^ s 0 0 - 1) (s' 3) (s' 4) ∧ zk_Opt (s 0 0) (s 1) (2 ^ s 0 0 - 1) (s' 3)) := by
  refine zc_M.of (own := RX0) rfl rfl (fun _ => Nat.le_of_ble_eq_true rfl) ?_
  intro q ca G hG
  show G s 0 [(0, .ref (q 0))] []
  obtain ⟨hn, hP, hO⟩ := id hg
  have hf := zx_full hn
  have hp := zb_pow_pos (s 0 0)
  have fin : ∀ f g u d, zk_Mt (s 0 0) (s 2) (2 ^ s 0 0 - 1) u d → zk_Opt (s 0 0) (s 1) (2 ^ s 0 0 - 1) u → G (zx_4 s f g u d) 51 [(0, .ref (q 0))] [] := by
    intro f g u d hM hOp
    refine g_aload_n hG dX0_matchOneMore_51 rfl 0 rfl ?_
    refine g_call hG (mX_storeKept l (zx_4 s f g u d) hn (fun j hj => by have := hM.le (show j < s 0 0 from hj); exact ⟨by show u j ≤ 10; omega, by show d j ≤ 10; omega⟩)) 0 q96 q98 qs5 q26 q99 (by decide +kernel) rfl ⟨by decide, by decide⟩ (ci := 0) rfl rfl rfl [] rfl (by simp [Value.category]) dX0_matchOneMore_52 ?_
    rintro _ _ ⟨rfl, rfl⟩
    show G (zc_ar (zc_ar (zc_ar (zc_ar (zc_ar (zc_ar s 7 f) 8 g) 5 u) 6 d) 3 (zx_mix (s 0 0) u (s 3))) 4 (zx_mix (s 0 0) d (s 4))) 55 [(0, .ref (q 0))] []
    exact g_vret hG rfl dX0_matchOneMore_55 (⟨rfl, ⟨rfl, rfl, rfl⟩, rfl, zk_Mt_congr (fun j hj => ⟨zx_mix_lt hj, zx_mix_lt hj⟩) hM, zk_Opt_congr (fun j hj => zx_mix_lt hj) hOp⟩)
  refine g_aload_n hG dX0_matchOneMore_0 rfl 0 rfl ?_
  refine g_call hG (mX_loadKept l s hn (fun j hj => by have := hM.le hj; omega)) 0 q84 q86 qs2 q26 q87 (by decide +kernel) rfl ⟨by decide, by decide⟩ (ci := 0) rfl rfl rfl [] rfl (by simp [Value.category]) dX0_matchOneMore_1 ?_
  rintro _ _ ⟨rfl, rfl⟩
  show G (zc_ar (zc_ar s 5 (zx_mix (s 0 0) (s 3) (s 5))) 6 (zx_mix (s 0 0) (s 4) (s 6))) 4 [(0, .ref (q 0))] []
  have hM0 : zk_Mt (s 0 0) (s 2) (2 ^ s 0 0 - 1) (zx_mix (s 0 0) (s 3) (s 5)) (zx_mix (s 0 0) (s 4) (s 6)) := zk_Mt_congr (fun j hj => ⟨zx_mix_lt hj, zx_mix_lt hj⟩) hM
  have hc0 : ∃ P, zp_sub P (2 ^ s 0 0 - 1) ∧ zp_uni (s 0 0) (s 1) P False ∧ zk_t (2 ^ s 0 0 - 1) (zx_mix (s 0 0) (s 3) (s 5)) (s 0 0) ≤ zb_cnt P 10 + 1 := by
    obtain ⟨P, p1, p2, p3⟩ := hc
    exact ⟨P, p1, p2, by rw [zk_t_congr (s 0 0) (fun j hj => zx_mix_lt hj)]; exact p3⟩
  refine g_eqs (s' := zx_4 s (s 7) (s 8) (zx_mix (s 0 0) (s 3) (s 5)) (zx_mix (s 0 0) (s 4) (s 6))) (zx_4_56 s _ _).symm ?_
  generalize zx_mix (s 0 0) (s 3) (s 5) = u at hM0 hc0 ⊢
  generalize zx_mix (s 0 0) (s 4) (s 6) = d at hM0 ⊢
  have lp : ∀ (k : Nat) (i : Nat) (f g : Nat → Nat), i ≤ s 0 0 → s 0 0 + 1 ≤ i + k → zk_MI (s 0 0) (s 2) (2 ^ s 0 0 - 1) u d i → G (zc_ar (zc_ar (zc_ar (zc_ar s 7 f) 8 g) 5 u) 6 d) 17 [(0, .ref (q 0)), (1, .int (nI (2 ^ s 0 0 - 1))), (2, .int (nI 0)), (3, .int (nI i))] [] := by
    intro k
    induction k with
    | zero => intros; omega
    | succ k ih =>
      intro i f g hi hk hMI
      refine g_iload_n hG dX0_matchOneMore_17 rfl 3 rfl ?_
      refine g_aload_n hG dX0_matchOneMore_18 rfl 0 rfl ?_
      refine x_get (s := zc_ar (zc_ar (zc_ar (zc_ar s 7 f) 8 g) 5 u) 6 d) (v := .int (nI (s 0 0))) hG 0 (by decide) rfl q36 rfl dX0_matchOneMore_19 ?_
      refine g_n_ge (tgt := 51) hG dX0_matchOneMore_22 (by decide) (by omega) (by omega) (fun h1 => ?_) (fun h1 => ?_)
      · obtain rfl : i = s 0 0 := by omega
        exact g_sub (lv' := [(0, .ref (q 0))]) hG [0] (rfl) (fin f g u d hM0 (zk_MI_end hn hP hO hM0 hMI))
      · refine g_iload_n hG dX0_matchOneMore_25 rfl 2 rfl ?_
        refine g_z_ne (tgt := 51) hG dX0_matchOneMore_26 (by decide) (by omega) (fun h2 => ?_) (fun h2 => ?_)
        · exact absurd rfl h2
        · have hb8 := (hM0.le (show i < s 0 0 by omega)).1
          have hfi : (2 ^ s 0 0 - 1).testBit i = true := (zb_full_iff _ _).mpr (by omega)
          refine g_aload_n hG dX0_matchOneMore_29 rfl 0 rfl ?_
          refine x_get (s := zc_ar (zc_ar (zc_ar (zc_ar s 7 f) 8 g) 5 u) 6 d) (v := .ref (q 5)) hG 6 (by decide) rfl q42 rfl dX0_matchOneMore_30 ?_
          refine g_iload_n hG dX0_matchOneMore_33 rfl 3 rfl ?_
          refine g_bldp (s := zc_ar (zc_ar (zc_ar (zc_ar s 7 f) 8 g) 5 u) 6 d) (f := u) (v := i) hG 5 rfl rfl (by omega) (by decide) dX0_matchOneMore_34 ?_
          refine g_p_ge (tgt := 45) hG dX0_matchOneMore_35 (by decide) (by omega) (fun h3 => ?_) (fun h3 => ?_)
          · refine g_iinc (v := nI (i + 1)) (lv' := [(0, .ref (q 0)), (1, .int (nI (2 ^ s 0 0 - 1))), (2, .int (nI 0)), (3, .int (nI (i + 1)))]) hG dX0_matchOneMore_45 3 rfl (nI_add _ _) (by decide) [1, 2, 3, 0] rfl ?_
            refine g_goto (tgt := 17) hG dX0_matchOneMore_48 (by decide) ?_
            exact ih (i + 1) f g (by omega) (by omega) (zk_MI_skip hMI h3)
          · refine g_aload_n hG dX0_matchOneMore_38 rfl 0 rfl ?_
            refine g_iload_n hG dX0_matchOneMore_39 rfl 3 rfl ?_
            refine g_iload_n hG dX0_matchOneMore_40 rfl 1 rfl ?_
            refine g_call hG (mX_augment l (zx_4 s f g u d) (2 ^ s 0 0 - 1) i hg hM0 (show i < s 0 0 by omega) hfi h3) 2 q88 q90 qs3 q26 q91 (by decide +kernel) rfl ⟨by decide, by decide⟩ (ci := 0) rfl rfl rfl [] rfl (by simp [Value.category]) dX0_matchOneMore_41 ?_
            rintro _ _ ⟨r, f2, g2, u2, d2, rfl, rfl, hau⟩
            show G (zx_4 (zx_4 s f g u d) f2 g2 u2 d2) 44 [(0, .ref (q 0)), (1, .int (nI (2 ^ s 0 0 - 1))), (2, .int (nI 0)), (3, .int (nI i))] [.int (nI r.toNat)]
            refine g_eqs (s' := zx_4 s f2 g2 u2 d2) (zx_4_4 _ _ _ _ _ _ _ _ _) ?_
            cases r with
            | false =>
              obtain ⟨rfl, rfl, hMI2⟩ := zk_MI_fail hMI hau
              show G (zc_ar (zc_ar (zc_ar (zc_ar s 7 f2) 8 g2) 5 u2) 6 d2) 44 [(0, .ref (q 0)), (1, .int (nI (2 ^ s 0 0 - 1))), (2, .int (nI 0)), (3, .int (nI i))] [.int (nI 0)]
              refine g_istore_n (lv' := [(0, .ref (q 0)), (1, .int (nI (2 ^ s 0 0 - 1))), (2, .int (nI 0)), (3, .int (nI i))]) hG dX0_matchOneMore_44 rfl (by decide) [1, 2, 0, 3] rfl ?_
              refine g_iinc (v := nI (i + 1)) (lv' := [(0, .ref (q 0)), (1, .int (nI (2 ^ s 0 0 - 1))), (2, .int (nI 0)), (3, .int (nI (i + 1)))]) hG dX0_matchOneMore_45 3 rfl (nI_add _ _) (by decide) [1, 2, 3, 0] rfl ?_
              refine g_goto (tgt := 17) hG dX0_matchOneMore_48 (by decide) ?_
              exact ih (i + 1) f2 g2 (by omega) (by omega) hMI2
            | true =>
              have hfin := zk_Au_opt (un := s 1) (show i < s 0 0 by omega) hfi h3 hc0 hau
              show G (zc_ar (zc_ar (zc_ar (zc_ar s 7 f2) 8 g2) 5 u2) 6 d2) 44 [(0, .ref (q 0)), (1, .int (nI (2 ^ s 0 0 - 1))), (2, .int (nI 0)), (3, .int (nI i))] [.int (nI 1)]
              refine g_istore_n (lv' := [(0, .ref (q 0)), (1, .int (nI (2 ^ s 0 0 - 1))), (2, .int (nI 1)), (3, .int (nI i))]) hG dX0_matchOneMore_44 rfl (by decide) [1, 2, 0, 3] rfl ?_
              refine g_iinc (v := nI (i + 1)) (lv' := [(0, .ref (q 0)), (1, .int (nI (2 ^ s 0 0 - 1))), (2, .int (nI 1)), (3, .int (nI (i + 1)))]) hG dX0_matchOneMore_45 3 rfl (nI_add _ _) (by decide) [1, 2, 3, 0] rfl ?_
              refine g_goto (tgt := 17) hG dX0_matchOneMore_48 (by decide) ?_
              refine g_iload_n hG dX0_matchOneMore_17 rfl 3 rfl ?_
              refine g_aload_n hG dX0_matchOneMore_18 rfl 0 rfl ?_
              refine x_get (s := zc_ar (zc_ar (zc_ar (zc_ar s 7 f2) 8 g2) 5 u2) 6 d2) (v := .int (nI (s 0 0))) hG 0 (by decide) rfl q36 rfl dX0_matchOneMore_19 ?_
              refine g_n_ge (tgt := 51) hG dX0_matchOneMore_22 (by decide) (by omega) (by omega) (fun h4 => ?_) (fun h4 => ?_)
              · exact g_sub (lv' := [(0, .ref (q 0))]) hG [0] (rfl) (fin f2 g2 u2 d2 hfin.1 hfin.2)
              · refine g_iload_n hG dX0_matchOneMore_25 rfl 2 rfl ?_
                refine g_z_ne (tgt := 51) hG dX0_matchOneMore_26 (by decide) (by omega) (fun h5 => ?_) (fun h5 => ?_)
                · exact g_sub (lv' := [(0, .ref (q 0))]) hG [0] (rfl) (fin f2 g2 u2 d2 hfin.1 hfin.2)
                · exact absurd h5 (by decide)
  refine g_iconst (v := nI 1) hG dX0_matchOneMore_4 rfl ?_
  refine g_aload_n hG dX0_matchOneMore_5 rfl 0 rfl ?_
  refine x_get (s := zc_ar (zc_ar (zc_ar (zc_ar s 7 (s 7)) 8 (s 8)) 5 u) 6 d) (v := .int (nI (s 0 0))) hG 0 (by decide) rfl q36 rfl dX0_matchOneMore_6 ?_
  refine g_ishl (z := nI (2 ^ (s 0 0))) hG dX0_matchOneMore_9 (nx_shl1 (s 0 0) (by omega)) ?_
  refine g_iconst (v := nI 1) hG dX0_matchOneMore_10 rfl ?_
  refine g_isub (z := nI ((2 ^ (s 0 0)) - 1)) hG dX0_matchOneMore_11 (pk_sub (by omega)) ?_
  refine g_istore_n (lv' := [(0, .ref (q 0)), (1, .int (nI ((2 ^ (s 0 0)) - 1)))]) hG dX0_matchOneMore_12 rfl (by decide) [1, 0] rfl ?_
  refine g_iconst (v := nI 0) hG dX0_matchOneMore_13 rfl ?_
  refine g_istore_n (lv' := [(0, .ref (q 0)), (1, .int (nI ((2 ^ (s 0 0)) - 1))), (2, .int (nI 0))]) hG dX0_matchOneMore_14 rfl (by decide) [1, 2, 0] rfl ?_
  refine g_iconst (v := nI 0) hG dX0_matchOneMore_15 rfl ?_
  refine g_istore_n (lv' := [(0, .ref (q 0)), (1, .int (nI ((2 ^ (s 0 0)) - 1))), (2, .int (nI 0)), (3, .int (nI 0))]) hG dX0_matchOneMore_16 rfl (by decide) [1, 2, 3, 0] rfl ?_
  exact g_sub (lv' := [(0, .ref (q 0)), (1, .int (nI (2 ^ s 0 0 - 1))), (2, .int (nI 0)), (3, .int (nI 0))]) hG [0, 1, 2, 3] (rfl) (lp (s 0 0 + 1) 0 (s 7) (s 8) (by omega) (by omega) zk_MI_0)
set_option maxHeartbeats 4000000 in
/-- width(x) -/
theorem mX_width (l : Launch) (s : zS) (x : Int32) (hI : zx_I s) : zc_M l zc_XL yX0_width cX0_width 2 5 118 (some .int) [.int x] s (fun v s' => zx_eq s s' ∧ zx_I s' ∧ ((¬ zp_is (s 0 0) x ∧ v = some (.int (-1))) ∨ ∃ a k, a < 2 ^ s 0 0 ∧ x = nI a ∧ k ≤ 10 ∧ zp_Mx (s 0 0) (s 1) a False k ∧ v = some (.int (nI k)))) := by
  refine zc_M.of (own := RX0) rfl rfl (fun _ => Nat.le_of_ble_eq_true rfl) ?_
  intro q ca G hG
  show G s 0 [(0, .ref (q 0)), (1, .int x)] []
  have hn := hI.1.1
  refine g_aload_n hG dX0_width_0 rfl 0 rfl ?_
  refine g_iload_n hG dX0_width_1 rfl 1 rfl ?_
  refine g_call hG (mX_isSet l s x hn) 1 q76 q78 qs0 q26 q79 (by decide +kernel) rfl ⟨by decide, by decide⟩ (ci := 0) rfl rfl rfl [] rfl (by simp [Value.category]) dX0_width_2 ?_
  rintro _ _ ⟨rfl, rfl⟩
  show G s 5 [(0, .ref (q 0)), (1, .int x)] [.int (pB (zp_is (s 0 0) x))]
  refine g_b_ne (tgt := 10) hG dX0_width_5 (by decide) (fun h1 => ?_) (fun h1 => ?_)
  · obtain ⟨a, ha, rfl⟩ := h1
    have ha31 := zb_lt31 ha (by omega)
    refine g_aload_n hG dX0_width_10 rfl 0 rfl ?_
    refine g_iload_n hG dX0_width_11 rfl 1 rfl ?_
    refine g_call hG (mX_bitsIn l s a ha31) 1 q132 q134 qs9 q26 q135 (by decide +kernel) rfl ⟨by decide, by decide⟩ (ci := 0) rfl rfl rfl [] rfl (by simp [Value.category]) dX0_width_12 ?_
    rintro _ _ ⟨rfl, rfl⟩
    show G s 15 [(0, .ref (q 0)), (1, .int (nI a))] [.int (nI (zb_cnt a 10))]
    refine g_aload_n hG dX0_width_15 rfl 0 rfl ?_
    refine g_iload_n hG dX0_width_16 rfl 1 rfl ?_
    refine g_call hG (mX_couplesWithin l s a hI ha) 1 q136 q138 qs10 q26 q139 (by decide +kernel) rfl ⟨by decide, by decide⟩ (ci := 0) rfl rfl rfl [.int (nI (zb_cnt a 10))] rfl (by simp [Value.category]) dX0_width_17 ?_
    rintro _ s1 ⟨rfl, hq, hI1, hM, hOp⟩
    show G s1 20 [(0, .ref (q 0)), (1, .int (nI a))] [.int (nI (zk_c (s1 5) (s 0 0))), .int (nI (zb_cnt a 10))]
    obtain ⟨hw1, hw2⟩ := zk_wd hn hI.1.2.1 hI.1.2.2 hM ha
    have ht := zk_t_le a (s1 5) (s 0 0)
    refine g_isub (z := nI ((zb_cnt a 10) - (zk_c (s1 5) (s 0 0)))) hG dX0_width_20 (pk_sub (by omega)) ?_
    exact g_iret hG rfl (rfl) dX0_width_21 (⟨hq, hI1, Or.inr ⟨a, zk_t a (s1 5) (s 0 0), ha, rfl, by omega, zk_max hI.1.2.1 hI.1.2.2 hM ha hOp, by rw [hw2]⟩⟩)
  · refine g_iconst (v := -1) hG dX0_width_8 rfl ?_
    exact g_iret hG rfl (rfl) dX0_width_9 (⟨zx_eq.rfl' s, hI, Or.inl ⟨h1, rfl⟩⟩)
set_option maxHeartbeats 4000000 in
/-- chains(x) -/
theorem mX_chains (l : Launch) (s : zS) (x : Int32) (hI : zx_I s) : zc_M l zc_XL yX0_chains cX0_chains 4 5 118 (some .int) [.int x] s (fun v s' => zx_eq s s' ∧ zx_I s' ∧ ((¬ zp_is (s 0 0) x ∧ v = some (.int (-1))) ∨ ∃ a k, a < 2 ^ s 0 0 ∧ x = nI a ∧ k ≤ 10 ∧ zp_Mx (s 0 0) (s 1) a False k ∧ zp_Cov (s 0 0) (s 1) k a ∧ v = some (.int (nI k)))) := by
  refine zc_M.of (own := RX0) rfl rfl (fun _ => Nat.le_of_ble_eq_true rfl) ?_
  intro q ca G hG
  show G s 0 [(0, .ref (q 0)), (1, .int x)] []
  have hn := hI.1.1
  refine g_aload_n hG dX0_chains_0 rfl 0 rfl ?_
  refine g_iload_n hG dX0_chains_1 rfl 1 rfl ?_
  refine g_call hG (mX_isSet l s x hn) 1 q76 q78 qs0 q26 q79 (by decide +kernel) rfl ⟨by decide, by decide⟩ (ci := 0) rfl rfl rfl [] rfl (by simp [Value.category]) dX0_chains_2 ?_
  rintro _ _ ⟨rfl, rfl⟩
  show G s 5 [(0, .ref (q 0)), (1, .int x)] [.int (pB (zp_is (s 0 0) x))]
  refine g_b_ne (tgt := 10) hG dX0_chains_5 (by decide) (fun h1 => ?_) (fun h1 => ?_)
  · obtain ⟨a, ha, rfl⟩ := h1
    have ha31 := zb_lt31 ha (by omega)
    refine g_aload_n hG dX0_chains_10 rfl 0 rfl ?_
    refine g_iload_n hG dX0_chains_11 rfl 1 rfl ?_
    refine g_call hG (mX_couplesWithin l s a hI ha) 1 q136 q138 qs10 q26 q139 (by decide +kernel) rfl ⟨by decide, by decide⟩ (ci := 0) rfl rfl rfl [] rfl (by simp [Value.category]) dX0_chains_12 ?_
    rintro _ s1 ⟨rfl, hq, hI1, hM, hOp⟩
    show G s1 15 [(0, .ref (q 0)), (1, .int (nI a))] [.int (nI (zk_c (s1 5) (s 0 0)))]
    have ht := zk_t_le a (s1 5) (s 0 0)
    have hq0 := hq.1
    have lp : ∀ (k : Nat) (i c : Nat), i ≤ s1 0 0 → s1 0 0 + 1 ≤ i + k → c = zk_t a (s1 5) i → G s1 20 [(0, .ref (q 0)), (1, .int (nI a)), (2, .int (nI c)), (3, .int (nI i))] [] := by
      intro k
      induction k with
      | zero => intros; omega
      | succ k ih =>
        intro i c hi hk hc
        refine g_iload_n hG dX0_chains_20 rfl 3 rfl ?_
        refine g_aload_n hG dX0_chains_21 rfl 0 rfl ?_
        refine x_get (s := s1) (v := .int (nI (s1 0 0))) hG 0 (by decide) rfl q36 rfl dX0_chains_22 ?_
        refine g_n_ge (tgt := 54) hG dX0_chains_25 (by decide) (by omega) (by omega) (fun h2 => ?_) (fun h2 => ?_)
        · obtain rfl : i = s1 0 0 := by omega
          refine g_iload_n hG dX0_chains_54 rfl 2 rfl ?_
          exact g_iret hG rfl (rfl) dX0_chains_55 (⟨hq, hI1, Or.inr ⟨a, zk_t a (s1 5) (s 0 0), ha, rfl, by omega, zk_max hI.1.2.1 hI.1.2.2 hM ha hOp, zk_cov hI.1.2.1 hI.1.2.2 hM ha, by rw [hc, hq0]⟩⟩)
        · have hb8 := (hM.le (show i < s 0 0 by omega)).1
          refine g_iload_n hG dX0_chains_28 rfl 1 rfl ?_
          refine g_iload_n hG dX0_chains_29 rfl 3 rfl ?_
          refine g_ishr (z := nI (a >>> i)) hG dX0_chains_30 (nx_shr (by omega) (by omega)) ?_
          refine g_iconst (v := nI 1) hG dX0_chains_31 rfl ?_
          refine g_iand (z := pB (a.testBit i = true)) hG dX0_chains_32 (nx_tb _ _) ?_
          refine g_b_eq (tgt := 48) hG dX0_chains_33 (by decide) (fun h3 => ?_) (fun h3 => ?_)
          · refine g_iinc (v := nI (i + 1)) (lv' := [(0, .ref (q 0)), (1, .int (nI a)), (2, .int (nI c)), (3, .int (nI (i + 1)))]) hG dX0_chains_48 3 rfl (nI_add _ _) (by decide) [1, 2, 3, 0] rfl ?_
            refine g_goto (tgt := 20) hG dX0_chains_51 (by decide) ?_
            exact ih (i + 1) c (by omega) (by omega) (by rw [hc, zk_t_n (fun z => absurd z h3)])
          · refine g_aload_n hG dX0_chains_36 rfl 0 rfl ?_
            refine x_get (s := s1) (v := .ref (q 5)) hG 6 (by decide) rfl q42 rfl dX0_chains_37 ?_
            refine g_iload_n hG dX0_chains_40 rfl 3 rfl ?_
            refine g_bldp (s := s1) (f := s1 5) (v := i) hG 5 rfl rfl (by omega) (by decide) dX0_chains_41 ?_
            refine g_p_ge (tgt := 48) hG dX0_chains_42 (by decide) (by omega) (fun h4 => ?_) (fun h4 => ?_)
            · refine g_iinc (v := nI (i + 1)) (lv' := [(0, .ref (q 0)), (1, .int (nI a)), (2, .int (nI c)), (3, .int (nI (i + 1)))]) hG dX0_chains_48 3 rfl (nI_add _ _) (by decide) [1, 2, 3, 0] rfl ?_
              refine g_goto (tgt := 20) hG dX0_chains_51 (by decide) ?_
              exact ih (i + 1) c (by omega) (by omega) (by rw [hc, zk_t_n (fun _ => h4)])
            · refine g_iinc (v := nI (c + 1)) (lv' := [(0, .ref (q 0)), (1, .int (nI a)), (2, .int (nI (c + 1))), (3, .int (nI i))]) hG dX0_chains_45 2 rfl (nI_add _ _) (by decide) [1, 2, 0, 3] rfl ?_
              refine g_iinc (v := nI (i + 1)) (lv' := [(0, .ref (q 0)), (1, .int (nI a)), (2, .int (nI (c + 1))), (3, .int (nI (i + 1)))]) hG dX0_chains_48 3 rfl (nI_add _ _) (by decide) [1, 2, 3, 0] rfl ?_
              refine g_goto (tgt := 20) hG dX0_chains_51 (by decide) ?_
              exact ih (i + 1) (c + 1) (by omega) (by omega) (by rw [hc, zk_t_y h3 h4])
    refine g_pop hG dX0_chains_15 rfl ?_
    refine g_iconst (v := nI 0) hG dX0_chains_16 rfl ?_
    refine g_istore_n (lv' := [(0, .ref (q 0)), (1, .int (nI a)), (2, .int (nI 0))]) hG dX0_chains_17 rfl (by decide) [1, 2, 0] rfl ?_
    refine g_iconst (v := nI 0) hG dX0_chains_18 rfl ?_
    refine g_istore_n (lv' := [(0, .ref (q 0)), (1, .int (nI a)), (2, .int (nI 0)), (3, .int (nI 0))]) hG dX0_chains_19 rfl (by decide) [1, 2, 3, 0] rfl ?_
    exact lp (s1 0 0 + 1) 0 0 (by omega) (by omega) rfl
  · refine g_iconst (v := -1) hG dX0_chains_8 rfl ?_
    exact g_iret hG rfl (rfl) dX0_chains_9 (⟨zx_eq.rfl' s, hI, Or.inl ⟨h1, rfl⟩⟩)
theorem mX_widthV (l : Launch) (s : zS) (a : Nat) (hI : zx_I s) (ha : a < 2 ^ s 0 0) : zc_M l zc_XL yX0_width cX0_width 2 5 118 (some .int) [.int (nI a)] s (fun v s' => zx_eq s s' ∧ zx_I s' ∧ ∃ k, k ≤ 10 ∧ zp_Mx (s 0 0) (s 1) a False k ∧ v = some (.int (nI k))) := by
  refine (mX_width l s _ hI).weak ?_
  have h2 := zp_p10 hI.1.1
  rintro v s' ⟨hq, hI1, ⟨h, -⟩ | ⟨b, k, hb, e, hk, hm, rfl⟩⟩
  · exact absurd ⟨a, ha, rfl⟩ h
  · have e2 := (nI_eq (by omega) (by omega)).mp e
    subst e2
    exact ⟨hq, hI1, k, hk, hm, rfl⟩
set_option maxHeartbeats 4000000 in
/-- isLargest(x) -/
theorem mX_isLargest (l : Launch) (s : zS) (x : Int32) (hI : zx_I s) : zc_M l zc_XL yX0_isLargest cX0_isLargest 3 6 139 (some .boolean) [.int x] s (fun v s' => zx_eq s s' ∧ zx_I s' ∧ v = some (.int (pB (∃ a, x = nI a ∧ zp_La (s 0 0) (s 1) a)))) := by
  refine zc_M.of (own := RX0) rfl rfl (fun _ => Nat.le_of_ble_eq_true rfl) ?_
  intro q ca G hG
  show G s 0 [(0, .ref (q 0)), (1, .int x)] []
  have hn := hI.1.1
  have hP := hI.1.2.1
  have hok := hI.1.ok
  have hf := zx_full hn
  have hp := zb_pow_pos (s 0 0)
  refine g_aload_n hG dX0_isLargest_0 rfl 0 rfl ?_
  refine g_iload_n hG dX0_isLargest_1 rfl 1 rfl ?_
  refine g_call hG (mX_isSet l s x hn) 1 q76 q78 qs0 q26 q79 (by decide +kernel) rfl ⟨by decide, by decide⟩ (ci := 0) rfl rfl rfl [] rfl (by simp [Value.category]) dX0_isLargest_2 ?_
  rintro _ _ ⟨rfl, rfl⟩
  show G s 5 [(0, .ref (q 0)), (1, .int x)] [.int (pB (zp_is (s 0 0) x))]
  refine g_b_ne (tgt := 10) hG dX0_isLargest_5 (by decide) (fun h1 => ?_) (fun h1 => ?_)
  · obtain ⟨a, ha, rfl⟩ := h1
    have ha31 := zb_lt31 ha (by omega)
    have hau : ∀ b, nI a = nI b → zp_La (s 0 0) (s 1) b → b = a := fun b e hb => ((nI_eq (by omega) (by have := hb.1; omega)).mp e).symm
    have lp : ∀ (k : Nat) (i : Nat), i ≤ s 0 0 → s 0 0 + 1 ≤ i + k → (∀ v, v < i → a.testBit v = true → s 1 v &&& a = 0) → G s 12 [(0, .ref (q 0)), (1, .int (nI a)), (2, .int (nI i))] [] := by
      intro k
      induction k with
      | zero => intros; omega
      | succ k ih =>
        intro i hi hk hJ
        refine g_iload_n hG dX0_isLargest_12 rfl 2 rfl ?_
        refine g_aload_n hG dX0_isLargest_13 rfl 0 rfl ?_
        refine x_get (s := s) (v := .int (nI (s 0 0))) hG 0 (by decide) rfl q36 rfl dX0_isLargest_14 ?_
        refine g_n_ge (tgt := 47) hG dX0_isLargest_17 (by decide) (by omega) (by omega) (fun h2 => ?_) (fun h2 => ?_)
        · have han : zp_uni (s 0 0) (s 1) a False := (zp_anti_iff hP).mpr (fun v hv => hJ v (by omega))
          have hc10 := zb_cnt_le a 10
          refine g_aload_n hG dX0_isLargest_47 rfl 0 rfl ?_
          refine g_iload_n hG dX0_isLargest_48 rfl 1 rfl ?_
          refine g_call hG (mX_bitsIn l s a ha31) 1 q132 q134 qs9 q26 q135 (by decide +kernel) rfl ⟨by decide, by decide⟩ (ci := 0) rfl rfl rfl [] rfl (by simp [Value.category]) dX0_isLargest_49 ?_
          rintro _ _ ⟨rfl, rfl⟩
          show G s 52 [(0, .ref (q 0)), (1, .int (nI a)), (2, .int (nI i))] [.int (nI (zb_cnt a 10))]
          refine g_aload_n hG dX0_isLargest_52 rfl 0 rfl ?_
          refine g_iconst (v := nI 1) hG dX0_isLargest_53 rfl ?_
          refine g_aload_n hG dX0_isLargest_54 rfl 0 rfl ?_
          refine x_get (s := s) (v := .int (nI (s 0 0))) hG 0 (by decide) rfl q36 rfl dX0_isLargest_55 ?_
          refine g_ishl (z := nI (2 ^ (s 0 0))) hG dX0_isLargest_58 (nx_shl1 (s 0 0) (by omega)) ?_
          refine g_iconst (v := nI 1) hG dX0_isLargest_59 rfl ?_
          refine g_isub (z := nI ((2 ^ (s 0 0)) - 1)) hG dX0_isLargest_60 (pk_sub (by omega)) ?_
          refine g_call hG (mX_widthV l s (2 ^ s 0 0 - 1) hI hf.1) 1 q172 q129 q130 q26 q131 (by decide +kernel) rfl ⟨by decide, by decide⟩ (ci := 0) rfl rfl rfl [.int (nI (zb_cnt a 10))] rfl (by simp [Value.category]) dX0_isLargest_61 ?_
          rintro _ s1 ⟨hq, hI1, m, hm10, hmx, rfl⟩
          show G s1 64 [(0, .ref (q 0)), (1, .int (nI a)), (2, .int (nI i))] [.int (nI m), .int (nI (zb_cnt a 10))]
          refine g_n_ne (tgt := 71) hG dX0_isLargest_64 (by decide) (by omega) (by omega) (fun h3 => ?_) (fun h3 => ?_)
          · refine g_iconst (v := nI 0) hG dX0_isLargest_71 rfl ?_
            exact g_iret hG rfl (rfl) dX0_isLargest_72 (⟨hq, hI1, zr_0 (fun ⟨b, e, hb⟩ => h3 (by have := hau b e hb; subst this; exact ((zp_La_iff hmx).mp hb).2.2))⟩)
          · refine g_iconst (v := nI 1) hG dX0_isLargest_67 rfl ?_
            refine g_goto (tgt := 72) hG dX0_isLargest_68 (by decide) ?_
            exact g_iret hG rfl (rfl) dX0_isLargest_72 (⟨hq, hI1, zr_1 ⟨a, rfl, (zp_La_iff hmx).mpr ⟨ha, han, h3⟩⟩⟩)
        · have hu8 := (hok.2 i (by omega)).1
          refine g_iload_n hG dX0_isLargest_20 rfl 1 rfl ?_
          refine g_iload_n hG dX0_isLargest_21 rfl 2 rfl ?_
          refine g_ishr (z := nI (a >>> i)) hG dX0_isLargest_22 (nx_shr (by omega) (by omega)) ?_
          refine g_iconst (v := nI 1) hG dX0_isLargest_23 rfl ?_
          refine g_iand (z := pB (a.testBit i = true)) hG dX0_isLargest_24 (nx_tb _ _) ?_
          refine g_b_eq (tgt := 41) hG dX0_isLargest_25 (by decide) (fun h3 => ?_) (fun h3 => ?_)
          · refine g_iinc (v := nI (i + 1)) (lv' := [(0, .ref (q 0)), (1, .int (nI a)), (2, .int (nI (i + 1)))]) hG dX0_isLargest_41 2 rfl (nI_add _ _) (by decide) [1, 2, 0] rfl ?_
            refine g_goto (tgt := 12) hG dX0_isLargest_44 (by decide) ?_
            exact ih (i + 1) (by omega) (by omega) (lt_s hJ (fun q1 => absurd q1 h3))
          · refine g_aload_n hG dX0_isLargest_28 rfl 0 rfl ?_
            refine x_get (s := s) (v := .ref (q 1)) hG 1 (by decide) rfl q37 rfl dX0_isLargest_29 ?_
            refine g_iload_n hG dX0_isLargest_32 rfl 2 rfl ?_
            refine g_ild (s := s) (f := s 1) (v := i) hG 1 rfl rfl (by omega) (by decide) dX0_isLargest_33 ?_
            refine g_iload_n hG dX0_isLargest_34 rfl 1 rfl ?_
            refine g_iand (z := nI ((s 1 i) &&& a)) hG dX0_isLargest_35 (nx_and _ _) ?_
            refine g_z_eq (tgt := 41) hG dX0_isLargest_36 (by decide) (zb_and_lt (by omega)) (fun h4 => ?_) (fun h4 => ?_)
            · refine g_iinc (v := nI (i + 1)) (lv' := [(0, .ref (q 0)), (1, .int (nI a)), (2, .int (nI (i + 1)))]) hG dX0_isLargest_41 2 rfl (nI_add _ _) (by decide) [1, 2, 0] rfl ?_
              refine g_goto (tgt := 12) hG dX0_isLargest_44 (by decide) ?_
              exact ih (i + 1) (by omega) (by omega) (lt_s hJ (fun _ => h4))
            · refine g_iconst (v := nI 0) hG dX0_isLargest_39 rfl ?_
              exact g_iret hG rfl (rfl) dX0_isLargest_40 (⟨zx_eq.rfl' s, hI, zr_0 (fun ⟨b, e, hb⟩ => h4 (by have := hau b e hb; subst this; exact (zp_anti_iff hP).mp hb.2.1 i (by omega) h3))⟩)
    refine g_iconst (v := nI 0) hG dX0_isLargest_10 rfl ?_
    refine g_istore_n (lv' := [(0, .ref (q 0)), (1, .int (nI a)), (2, .int (nI 0))]) hG dX0_isLargest_11 rfl (by decide) [1, 2, 0] rfl ?_
    exact lp (s 0 0 + 1) 0 (by omega) (by omega) (fun _ h => absurd h (Nat.not_lt_zero _))
  · refine g_iconst (v := nI 0) hG dX0_isLargest_8 rfl ?_
    exact g_iret hG rfl (rfl) dX0_isLargest_9 (⟨zx_eq.rfl' s, hI, zr_0 (fun ⟨a, e, h2⟩ => h1 ⟨a, h2.1, e⟩)⟩)
set_option maxHeartbeats 4000000 in
/-- inSomeLargest(x) -/
theorem mX_inSomeLargest (l : Launch) (s : zS) (x : Int32) (hI : zx_I s) : zc_M l zc_XL yX0_inSomeLargest cX0_inSomeLargest 5 6 139 (some .boolean) [.int x] s (fun v s' => zx_eq s s' ∧ zx_I s' ∧ v = some (.int (pB (∃ z a, z < s 0 0 ∧ x = nI z ∧ zp_La (s 0 0) (s 1) a ∧ a.testBit z = true)))) := by
  refine zc_M.of (own := RX0) rfl rfl (fun _ => Nat.le_of_ble_eq_true rfl) ?_
  intro q ca G hG
  show G s 0 [(0, .ref (q 0)), (1, .int x)] []
  have hn := hI.1.1
  have hP := hI.1.2.1
  have hf := zx_full hn
  have hp := zb_pow_pos (s 0 0)
  refine g_aload_n hG dX0_inSomeLargest_0 rfl 0 rfl ?_
  refine g_iload_n hG dX0_inSomeLargest_1 rfl 1 rfl ?_
  refine g_call hG (mX_isElement l s x hn) 1 q124 q126 qs8 q26 q127 (by decide +kernel) rfl ⟨by decide, by decide⟩ (ci := 0) rfl rfl rfl [] rfl (by simp [Value.category]) dX0_inSomeLargest_2 ?_
  rintro _ _ ⟨rfl, rfl⟩
  show G s 5 [(0, .ref (q 0)), (1, .int x)] [.int (pB (∃ u, u < s 0 0 ∧ x = nI u))]
  refine g_b_ne (tgt := 10) hG dX0_inSomeLargest_5 (by decide) (fun h1 => ?_) (fun h1 => ?_)
  · obtain ⟨z, hz, rfl⟩ := h1
    have hb : zb_dif (2 ^ s 0 0 - 1) ((s 1 z ||| s 2 z) ||| (2 ^ z)) < 2 ^ s 0 0 := Nat.lt_of_le_of_lt (zb_dif_le _ _) hf.1
    refine g_iconst (v := nI 1) hG dX0_inSomeLargest_10 rfl ?_
    refine g_aload_n hG dX0_inSomeLargest_11 rfl 0 rfl ?_
    refine x_get (s := s) (v := .int (nI (s 0 0))) hG 0 (by decide) rfl q36 rfl dX0_inSomeLargest_12 ?_
    refine g_ishl (z := nI (2 ^ (s 0 0))) hG dX0_inSomeLargest_15 (nx_shl1 (s 0 0) (by omega)) ?_
    refine g_iconst (v := nI 1) hG dX0_inSomeLargest_16 rfl ?_
    refine g_isub (z := nI ((2 ^ (s 0 0)) - 1)) hG dX0_inSomeLargest_17 (pk_sub (by omega)) ?_
    refine g_istore_n (lv' := [(0, .ref (q 0)), (1, .int (nI z)), (2, .int (nI ((2 ^ (s 0 0)) - 1)))]) hG dX0_inSomeLargest_18 rfl (by decide) [1, 2, 0] rfl ?_
    refine g_iload_n hG dX0_inSomeLargest_19 rfl 2 rfl ?_
    refine g_aload_n hG dX0_inSomeLargest_20 rfl 0 rfl ?_
    refine x_get (s := s) (v := .ref (q 1)) hG 1 (by decide) rfl q37 rfl dX0_inSomeLargest_21 ?_
    refine g_iload_n hG dX0_inSomeLargest_24 rfl 1 rfl ?_
    refine g_ild (s := s) (f := s 1) (v := z) hG 1 rfl rfl (by omega) (by decide) dX0_inSomeLargest_25 ?_
    refine g_aload_n hG dX0_inSomeLargest_26 rfl 0 rfl ?_
    refine x_get (s := s) (v := .ref (q 2)) hG 2 (by decide) rfl q38 rfl dX0_inSomeLargest_27 ?_
    refine g_iload_n hG dX0_inSomeLargest_30 rfl 1 rfl ?_
    refine g_ild (s := s) (f := s 2) (v := z) hG 2 rfl rfl (by omega) (by decide) dX0_inSomeLargest_31 ?_
    refine g_ior (z := nI ((s 1 z) ||| (s 2 z))) hG dX0_inSomeLargest_32 (nx_or _ _) ?_
    refine g_iconst (v := nI 1) hG dX0_inSomeLargest_33 rfl ?_
    refine g_iload_n hG dX0_inSomeLargest_34 rfl 1 rfl ?_
    refine g_ishl (z := nI (2 ^ z)) hG dX0_inSomeLargest_35 (nx_shl1 z (by omega)) ?_
    refine g_ior (z := nI (((s 1 z) ||| (s 2 z)) ||| (2 ^ z))) hG dX0_inSomeLargest_36 (nx_or _ _) ?_
    refine g_iconst (v := -1) hG dX0_inSomeLargest_37 rfl ?_
    refine g_ixor (z := nI (((s 1 z) ||| (s 2 z)) ||| (2 ^ z)) ^^^ (-1)) hG dX0_inSomeLargest_38 (rfl) ?_
    refine g_iand (z := nI (zb_dif ((2 ^ (s 0 0)) - 1) (((s 1 z) ||| (s 2 z)) ||| (2 ^ z)))) hG dX0_inSomeLargest_39 (nx_not _ _) ?_
    refine g_istore_n (lv' := [(0, .ref (q 0)), (1, .int (nI z)), (2, .int (nI ((2 ^ (s 0 0)) - 1))), (3, .int (nI (zb_dif ((2 ^ (s 0 0)) - 1) (((s 1 z) ||| (s 2 z)) ||| (2 ^ z)))))]) hG dX0_inSomeLargest_40 rfl (by decide) [1, 2, 3, 0] rfl ?_
    refine g_aload_n hG dX0_inSomeLargest_41 rfl 0 rfl ?_
    refine g_iload_n hG dX0_inSomeLargest_42 rfl 3 rfl ?_
    refine g_call hG (mX_widthV l s (zb_dif (2 ^ s 0 0 - 1) ((s 1 z ||| s 2 z) ||| (2 ^ z))) hI hb) 1 q172 q129 q130 q26 q131 (by decide +kernel) rfl ⟨by decide, by decide⟩ (ci := 0) rfl rfl rfl [] rfl (by simp [Value.category]) dX0_inSomeLargest_43 ?_
    rintro _ s1 ⟨hq, hI1, m, hm10, hmx, rfl⟩
    show G s1 46 [(0, .ref (q 0)), (1, .int (nI z)), (2, .int (nI ((2 ^ (s 0 0)) - 1))), (3, .int (nI (zb_dif ((2 ^ (s 0 0)) - 1) (((s 1 z) ||| (s 2 z)) ||| (2 ^ z)))))] [.int (nI m)]
    have hq0 : s1 0 0 = s 0 0 := hq.1
    have hq1 : s1 1 = s 1 := hq.2.1
    refine g_istore (lv' := [(0, .ref (q 0)), (1, .int (nI z)), (2, .int (nI ((2 ^ (s 0 0)) - 1))), (3, .int (nI (zb_dif ((2 ^ (s 0 0)) - 1) (((s 1 z) ||| (s 2 z)) ||| (2 ^ z))))), (4, .int (nI m))]) hG dX0_inSomeLargest_46 (by decide) [1, 2, 3, 4, 0] rfl ?_
    refine g_iload hG dX0_inSomeLargest_48 4 rfl ?_
    refine g_iconst (v := nI 1) hG dX0_inSomeLargest_50 rfl ?_
    refine g_iadd (z := nI (m + 1)) hG dX0_inSomeLargest_51 (nI_add _ _) ?_
    refine g_aload_n hG dX0_inSomeLargest_52 rfl 0 rfl ?_
    refine g_iload_n hG dX0_inSomeLargest_53 rfl 2 rfl ?_
    refine g_call hG (mX_widthV l s1 (2 ^ s 0 0 - 1) hI1 (by rw [hq0]; exact hf.1)) 1 q172 q129 q130 q26 q131 (by decide +kernel) rfl ⟨by decide, by decide⟩ (ci := 0) rfl rfl rfl [.int (nI (m + 1))] rfl (by simp [Value.category]) dX0_inSomeLargest_54 ?_
    rintro _ s2 ⟨hq2, hI2, m2, hm2, hmx2, rfl⟩
    show G s2 57 [(0, .ref (q 0)), (1, .int (nI z)), (2, .int (nI ((2 ^ (s 0 0)) - 1))), (3, .int (nI (zb_dif ((2 ^ (s 0 0)) - 1) (((s 1 z) ||| (s 2 z)) ||| (2 ^ z))))), (4, .int (nI m))] [.int (nI m2), .int (nI (m + 1))]
    rw [hq0, hq1] at hmx2
    have hbe := zp_beside hn hP hI.1.2.2 hz hmx hmx2
    have hzu : ∀ y, nI z = nI y → y < s 0 0 → y = z := fun y e hy => ((nI_eq (by omega) (by omega)).mp e).symm
    refine g_n_ne (tgt := 64) hG dX0_inSomeLargest_57 (by decide) (by omega) (by omega) (fun h3 => ?_) (fun h3 => ?_)
    · refine g_iconst (v := nI 0) hG dX0_inSomeLargest_64 rfl ?_
      exact g_iret hG rfl (rfl) dX0_inSomeLargest_65 (⟨hq.trans hq2, hI2, zr_0 (fun ⟨y, a, e1, e2, e3, e4⟩ => h3 (hbe.mp ⟨a, e3, by rw [hzu y e2 e1] at e4; exact e4⟩))⟩)
    · refine g_iconst (v := nI 1) hG dX0_inSomeLargest_60 rfl ?_
      refine g_goto (tgt := 65) hG dX0_inSomeLargest_61 (by decide) ?_
      exact g_iret hG rfl (rfl) dX0_inSomeLargest_65 (⟨hq.trans hq2, hI2, zr_1 (by obtain ⟨a, a1, a2⟩ := hbe.mpr h3; exact ⟨z, a, hz, rfl, a1, a2⟩)⟩)
  · refine g_iconst (v := nI 0) hG dX0_inSomeLargest_8 rfl ?_
    exact g_iret hG rfl (rfl) dX0_inSomeLargest_9 (⟨zx_eq.rfl' s, hI, zr_0 (fun ⟨z, a, e1, e2, e3, e4⟩ => h1 ⟨z, e1, e2⟩)⟩)
end
section
set_option maxRecDepth 100000
theorem zx_G_eq {s s' : zS} (h : zx_eq s s') (hg : zx_G s) : zx_G s' := by
  obtain ⟨h1, h2, h3⟩ := h
  unfold zx_G
  rw [h1, h2, h3]
  exact hg
theorem zx_I_of {s s' : zS} (h : zx_eq s s') (hg : zx_G s) (h1 : s' 0 1 = 0 ∨ s' 0 1 = 1) (hM : zk_Mt (s 0 0) (s 2) (2 ^ s 0 0 - 1) (s' 3) (s' 4)) (hO : zk_Opt (s 0 0) (s 1) (2 ^ s 0 0 - 1) (s' 3)) : zx_I s' := by
  refine ⟨zx_G_eq h hg, h1, fun _ => ?_⟩
  obtain ⟨e1, e2, e3⟩ := h
  rw [e1, e2, e3]
  exact ⟨hM, hO⟩
def za_f (n al : Nat) (ov : Nat → Nat) (i : Nat) (f : Nat → Nat) : Prop := (∀ j, j < i → f j = if al.testBit j = true then ov j ||| 2 ^ n else ov j) ∧ (∀ j, i ≤ j → j < n → f j = ov j) ∧ f n = 0
theorem za_f_0 (n al : Nat) (ov : Nat → Nat) : za_f n al ov 0 (zc_up ov n 0) := ⟨fun j hj => absurd hj (Nat.not_lt_zero _), fun j _ hj => zc_up_n (by omega), zc_up_s _ _ _⟩
theorem za_f_n {n al : Nat} {ov : Nat → Nat} {i : Nat} {f : Nat → Nat} (h : za_f n al ov i f) (hi : i < n) (hb : ¬ al.testBit i = true) : za_f n al ov (i + 1) f := by
  obtain ⟨h1, h2, h3⟩ := h
  refine ⟨fun j hj => ?_, fun j hj => h2 j (by omega), h3⟩
  by_cases e : j = i
  · subst e; rw [if_neg hb]; exact h2 j (Nat.le_refl _) hi
  · exact h1 j (by omega)
theorem za_f_y {n al : Nat} {ov : Nat → Nat} {i : Nat} {f : Nat → Nat} (h : za_f n al ov i f) (hi : i < n) (hb : al.testBit i = true) : za_f n al ov (i + 1) (zc_up f i (f i ||| 2 ^ n)) := by
  obtain ⟨h1, h2, h3⟩ := h
  refine ⟨fun j hj => ?_, fun j hj hjn => ?_, ?_⟩
  · by_cases e : j = i
    · subst e; rw [zc_up_s, if_pos hb, h2 j (Nat.le_refl _) hi]
    · rw [zc_up_n e]; exact h1 j (by omega)
  · rw [zc_up_n (by omega)]; exact h2 j (by omega) hjn
  · rw [zc_up_n (by omega)]; exact h3
set_option maxHeartbeats 4000000 in
/-- add(x) -/
theorem mX_add (l : Launch) (s : zS) (x : Int32) (hI : zx_I s) : zc_M l zc_XL yX0_add cX0_add 5 3 76 (some .int) [.int x] s (fun v s' => (s 0 0 = 10 ∧ v = some (.int (-2)) ∧ s = s') ∨ (s 0 0 < 10 ∧ ¬ zp_is (s 0 0) x ∧ v = some (.int (-1)) ∧ s = s') ∨ (s 0 0 < 10 ∧ ∃ a, a < 2 ^ s 0 0 ∧ x = nI a ∧ v = some (.int (nI (s 0 0 + 1))) ∧ s' 0 0 = s 0 0 + 1 ∧ s' 1 = zc_up (s 1) (s 0 0) (zp_all (s 1) a (s 0 0)) ∧ zx_I s')) := by
  refine zc_M.of (own := RX0) rfl rfl (fun _ => Nat.le_of_ble_eq_true rfl) ?_
  intro q ca G hG
  show G s 0 [(0, .ref (q 0)), (1, .int x)] []
  obtain ⟨hg, h01, hkp⟩ := id hI
  have hok := hg.ok
  obtain ⟨hn, hP, hO⟩ := id hg
  refine g_aload_n hG dX0_add_0 rfl 0 rfl ?_
  refine x_get (s := s) (v := .int (nI (s 0 0))) hG 0 (by decide) rfl q36 rfl dX0_add_1 ?_
  refine g_bipush (v := nI 10) hG dX0_add_4 (by decide) ?_
  refine g_n_lt (tgt := 12) hG dX0_add_6 (by decide) (by omega) (by omega) (fun h1 => ?_) (fun h1 => ?_)
  · refine g_aload_n hG dX0_add_12 rfl 0 rfl ?_
    refine g_iload_n hG dX0_add_13 rfl 1 rfl ?_
    refine g_call hG (mX_isSet l s x hn) 1 q76 q78 qs0 q26 q79 (by decide +kernel) rfl ⟨by decide, by decide⟩ (ci := 0) rfl rfl rfl [] rfl (by simp [Value.category]) dX0_add_14 ?_
    rintro _ _ ⟨rfl, rfl⟩
    show G s 17 [(0, .ref (q 0)), (1, .int x)] [.int (pB (zp_is (s 0 0) x))]
    refine g_b_ne (tgt := 22) hG dX0_add_17 (by decide) (fun h2 => ?_) (fun h2 => ?_)
    · obtain ⟨a, ha, rfl⟩ := h2
      have ha31 := zb_lt31 ha (by omega)
      have hal := zp_all_lt hP ha
      have hal31 := zb_lt31 hal (by omega : s 0 0 ≤ 31)
      refine g_eqs (s' := zc_ar s 1 (s 1)) (zc_ar_self s 1).symm ?_
      refine g_eqs (s' := zc_ar (zc_ar s 1 (s 1)) 2 (s 2)) (zc_ar_self (zc_ar s 1 (s 1)) 2).symm ?_
      refine g_eqs (s' := zc_ar (zc_ar (zc_ar s 1 (s 1)) 2 (s 2)) 3 (s 3)) (zc_ar_self (zc_ar (zc_ar s 1 (s 1)) 2 (s 2)) 3).symm ?_
      refine g_eqs (s' := zc_ar (zc_ar (zc_ar (zc_ar s 1 (s 1)) 2 (s 2)) 3 (s 3)) 4 (s 4)) (zc_ar_self (zc_ar (zc_ar (zc_ar s 1 (s 1)) 2 (s 2)) 3 (s 3)) 4).symm ?_
      have p2 : ∀ (k : Nat) (i : Nat) (f : Nat → Nat), i ≤ s 0 0 → s 0 0 + 1 ≤ i + k → za_f (s 0 0) (zp_all (s 1) a (s 0 0)) (s 2) i f → G (zc_ar (zc_ar (zc_ar (zc_ar s 1 (zc_up (s 1) (s 0 0) (zp_all (s 1) a (s 0 0)))) 2 f) 3 (s 3)) 4 (s 4)) 80 [(0, .ref (q 0)), (1, .int (nI a)), (2, .int (nI (s 0 0))), (3, .int (nI (zp_all (s 1) a (s 0 0)))), (4, .int (nI i))] [] := by
        intro k
        induction k with
        | zero => intros; omega
        | succ k ih =>
          intro i f hi hk hf
          refine g_iload hG dX0_add_80 4 rfl ?_
          refine g_iload_n hG dX0_add_82 rfl 2 rfl ?_
          refine g_n_ge (tgt := 114) hG dX0_add_83 (by decide) (by omega) (by omega) (fun h2 => ?_) (fun h2 => ?_)
          · obtain rfl : i = s 0 0 := by omega
            refine g_aload_n hG dX0_add_114 rfl 0 rfl ?_
            refine x_get (s := zc_ar (zc_ar (zc_ar (zc_ar s 1 (zc_up (s 1) (s 0 0) (zp_all (s 1) a (s 0 0)))) 2 f) 3 (s 3)) 4 (s 4)) (v := .ref (q 3)) hG 4 (by decide) rfl q40 rfl dX0_add_115 ?_
            refine g_iload_n hG dX0_add_118 rfl 2 rfl ?_
            refine g_iconst (v := -1) hG dX0_add_119 rfl ?_
            refine g_as (y := pI 0) rfl ?_
            refine g_bstp (s := zc_ar (zc_ar (zc_ar (zc_ar s 1 (zc_up (s 1) (s 0 0) (zp_all (s 1) a (s 0 0)))) 2 f) 3 (s 3)) 4 (s 4)) (f := s 3) (v := s 0 0) (e := 0) hG 3 rfl rfl rfl (by omega) (by decide) (by omega) dX0_add_120 ?_
            refine g_eqs (s' := zc_ar (zc_ar (zc_ar (zc_ar s 1 (zc_up (s 1) (s 0 0) (zp_all (s 1) a (s 0 0)))) 2 f) 3 (zc_up (s 3) (s 0 0) 0)) 4 (s 4)) ((zc_st_arC (by decide) _ _ _ _).trans (congrArg (fun zz_ => zc_ar zz_ 4 (s 4)) (zc_st_ar _ _ _ _ _))) ?_
            refine g_aload_n hG dX0_add_121 rfl 0 rfl ?_
            refine x_get (s := zc_ar (zc_ar (zc_ar (zc_ar s 1 (zc_up (s 1) (s 0 0) (zp_all (s 1) a (s 0 0)))) 2 f) 3 (zc_up (s 3) (s 0 0) 0)) 4 (s 4)) (v := .ref (q 4)) hG 5 (by decide) rfl q41 rfl dX0_add_122 ?_
            refine g_iload_n hG dX0_add_125 rfl 2 rfl ?_
            refine g_iconst (v := -1) hG dX0_add_126 rfl ?_
            refine g_as (y := pI 0) rfl ?_
            refine g_bstp (s := zc_ar (zc_ar (zc_ar (zc_ar s 1 (zc_up (s 1) (s 0 0) (zp_all (s 1) a (s 0 0)))) 2 f) 3 (zc_up (s 3) (s 0 0) 0)) 4 (s 4)) (f := s 4) (v := s 0 0) (e := 0) hG 4 rfl rfl rfl (by omega) (by decide) (by omega) dX0_add_127 ?_
            refine g_eqs (s' := zc_ar (zc_ar (zc_ar (zc_ar s 1 (zc_up (s 1) (s 0 0) (zp_all (s 1) a (s 0 0)))) 2 f) 3 (zc_up (s 3) (s 0 0) 0)) 4 (zc_up (s 4) (s 0 0) 0)) (zc_st_ar _ _ _ _ _) ?_
            refine g_aload_n hG dX0_add_128 rfl 0 rfl ?_
            refine g_dup hG dX0_add_129 rfl ?_
            refine x_get (s := zc_ar (zc_ar (zc_ar (zc_ar s 1 (zc_up (s 1) (s 0 0) (zp_all (s 1) a (s 0 0)))) 2 f) 3 (zc_up (s 3) (s 0 0) 0)) 4 (zc_up (s 4) (s 0 0) 0)) (v := .int (nI (s 0 0))) hG 0 (by decide) rfl q36 rfl dX0_add_130 ?_
            refine g_iconst (v := nI 1) hG dX0_add_133 rfl ?_
            refine g_iadd (z := nI ((s 0 0) + 1)) hG dX0_add_134 (nI_add _ _) ?_
            refine x_putn hG dX0_add_135 ?_
            refine g_aload_n hG dX0_add_138 rfl 0 rfl ?_
            refine x_get (s := zc_st (zc_ar (zc_ar (zc_ar (zc_ar s 1 (zc_up (s 1) (s 0 0) (zp_all (s 1) a (s 0 0)))) 2 f) 3 (zc_up (s 3) (s 0 0) 0)) 4 (zc_up (s 4) (s 0 0) 0)) 0 0 ((s 0 0) + 1)) (v := .int (nI (s 0 1))) hG 3 (by decide) rfl q39 rfl dX0_add_139 ?_
            have hG2 : zx_G (zc_st (zc_ar (zc_ar (zc_ar (zc_ar s 1 (zc_up (s 1) (s 0 0) (zp_all (s 1) a (s 0 0)))) 2 f) 3 (zc_up (s 3) (s 0 0) 0)) 4 (zc_up (s 4) (s 0 0) 0)) 0 0 ((s 0 0) + 1)) := ⟨by show s 0 0 + 1 ≤ 10; omega, zp_Po_add hP ha (fun j hj => zc_up_n (by omega)) (zc_up_s _ _ _), zp_Ov_add hP hO (fun j hj => zc_up_n (by omega)) (zc_up_s _ _ _) hf.2.2 hf.1 hal⟩
            refine g_z_eq (tgt := 149) hG dX0_add_142 (by decide) (by omega) (fun h3 => ?_) (fun h3 => ?_)
            · refine g_aload_n hG dX0_add_149 rfl 0 rfl ?_
              refine x_get (s := zc_st (zc_ar (zc_ar (zc_ar (zc_ar s 1 (zc_up (s 1) (s 0 0) (zp_all (s 1) a (s 0 0)))) 2 f) 3 (zc_up (s 3) (s 0 0) 0)) 4 (zc_up (s 4) (s 0 0) 0)) 0 0 ((s 0 0) + 1)) (v := .int (nI ((s 0 0) + 1))) hG 0 (by decide) rfl q36 rfl dX0_add_150 ?_
              exact g_iret hG rfl (rfl) dX0_add_153 (Or.inr (Or.inr ⟨h1, a, ha, rfl, rfl, rfl, rfl, hG2, Or.inl h3, fun z => absurd (h3.symm.trans z) (by decide)⟩))
            · obtain ⟨hM, hOp⟩ := hkp (by omega)
              have hov : ∀ u v, u < s 0 0 → (s 2 u).testBit v = true → (f u).testBit v = true := fun u v hu hb => by
                rw [hf.1 u hu]
                by_cases q : (zp_all (s 1) a (s 0 0)).testBit u = true
                · rw [if_pos q, zb_or_iff]; exact Or.inl hb
                · rw [if_neg q]; exact hb
              have hM2 := zk_Mt_add hov hM
              have hO2 := zk_Opt_add (un' := zc_up (s 1) (s 0 0) (zp_all (s 1) a (s 0 0))) (fun j hj => zc_up_n (by omega)) hOp
              refine g_aload_n hG dX0_add_145 rfl 0 rfl ?_
              refine g_call hG (mX_matchOneMore l (zc_st (zc_ar (zc_ar (zc_ar (zc_ar s 1 (zc_up (s 1) (s 0 0) (zp_all (s 1) a (s 0 0)))) 2 f) 3 (zc_up (s 3) (s 0 0) 0)) 4 (zc_up (s 4) (s 0 0) 0)) 0 0 ((s 0 0) + 1)) hG2 hM2 hO2) 0 q80 q82 qs1 q26 q83 (by decide +kernel) rfl ⟨by decide, by decide⟩ (ci := 0) rfl rfl rfl [] rfl (by simp [Value.category]) dX0_add_146 ?_
              rintro _ s1 ⟨rfl, hq, hq01, hM3, hO3⟩
              show G s1 149 [(0, .ref (q 0)), (1, .int (nI a)), (2, .int (nI (s 0 0))), (3, .int (nI (zp_all (s 1) a (s 0 0)))), (4, .int (nI (s 0 0)))] []
              have hq0 : s1 0 0 = s 0 0 + 1 := hq.1
              have hq1 : s1 1 = zc_up (s 1) (s 0 0) (zp_all (s 1) a (s 0 0)) := hq.2.1
              have hq01 : s1 0 1 = s 0 1 := hq01
              refine g_aload_n hG dX0_add_149 rfl 0 rfl ?_
              refine x_get (s := s1) (v := .int (nI (s1 0 0))) hG 0 (by decide) rfl q36 rfl dX0_add_150 ?_
              refine g_as (y := nI (s 0 0 + 1)) (by rw [hq0]) ?_
              exact g_iret hG rfl (rfl) dX0_add_153 (Or.inr (Or.inr ⟨h1, a, ha, rfl, rfl, hq0, hq1, zx_I_of hq hG2 (by omega) hM3 hO3⟩))
          · refine g_iload_n hG dX0_add_86 rfl 3 rfl ?_
            refine g_iload hG dX0_add_87 4 rfl ?_
            refine g_ishr (z := nI ((zp_all (s 1) a (s 0 0)) >>> i)) hG dX0_add_89 (nx_shr (by omega) (by omega)) ?_
            refine g_iconst (v := nI 1) hG dX0_add_90 rfl ?_
            refine g_iand (z := pB ((zp_all (s 1) a (s 0 0)).testBit i = true)) hG dX0_add_91 (nx_tb _ _) ?_
            refine g_b_eq (tgt := 108) hG dX0_add_92 (by decide) (fun h4 => ?_) (fun h4 => ?_)
            · refine g_iinc (v := nI (i + 1)) (lv' := [(0, .ref (q 0)), (1, .int (nI a)), (2, .int (nI (s 0 0))), (3, .int (nI (zp_all (s 1) a (s 0 0)))), (4, .int (nI (i + 1)))]) hG dX0_add_108 4 rfl (nI_add _ _) (by decide) [1, 2, 3, 4, 0] rfl ?_
              refine g_goto (tgt := 80) hG dX0_add_111 (by decide) ?_
              exact ih (i + 1) f (by omega) (by omega) (za_f_n hf (by omega) h4)
            · refine g_aload_n hG dX0_add_95 rfl 0 rfl ?_
              refine x_get (s := zc_ar (zc_ar (zc_ar (zc_ar s 1 (zc_up (s 1) (s 0 0) (zp_all (s 1) a (s 0 0)))) 2 f) 3 (s 3)) 4 (s 4)) (v := .ref (q 2)) hG 2 (by decide) rfl q38 rfl dX0_add_96 ?_
              refine g_iload hG dX0_add_99 4 rfl ?_
              refine g_dup2 hG dX0_add_101 rfl rfl ?_
              refine g_ild (s := zc_ar (zc_ar (zc_ar (zc_ar s 1 (zc_up (s 1) (s 0 0) (zp_all (s 1) a (s 0 0)))) 2 f) 3 (s 3)) 4 (s 4)) (f := f) (v := i) hG 2 rfl rfl (by omega) (by decide) dX0_add_102 ?_
              refine g_iconst (v := nI 1) hG dX0_add_103 rfl ?_
              refine g_iload_n hG dX0_add_104 rfl 2 rfl ?_
              refine g_ishl (z := nI (2 ^ (s 0 0))) hG dX0_add_105 (nx_shl1 (s 0 0) (by omega)) ?_
              refine g_ior (z := nI ((f i) ||| (2 ^ (s 0 0)))) hG dX0_add_106 (nx_or _ _) ?_
              refine g_ist (s := zc_ar (zc_ar (zc_ar (zc_ar s 1 (zc_up (s 1) (s 0 0) (zp_all (s 1) a (s 0 0)))) 2 f) 3 (s 3)) 4 (s 4)) (f := f) (v := i) (e := (f i) ||| (2 ^ (s 0 0))) hG 2 rfl rfl rfl (by omega) (by decide) dX0_add_107 ?_
              refine g_eqs (s' := zc_ar (zc_ar (zc_ar (zc_ar s 1 (zc_up (s 1) (s 0 0) (zp_all (s 1) a (s 0 0)))) 2 (zc_up f i ((f i) ||| (2 ^ (s 0 0))))) 3 (s 3)) 4 (s 4)) ((zc_st_arC (by decide) _ _ _ _).trans (congrArg (fun zz_ => zc_ar zz_ 4 (s 4)) ((zc_st_arC (by decide) _ _ _ _).trans (congrArg (fun zz_ => zc_ar zz_ 3 (s 3)) (zc_st_ar _ _ _ _ _))))) ?_
              refine g_iinc (v := nI (i + 1)) (lv' := [(0, .ref (q 0)), (1, .int (nI a)), (2, .int (nI (s 0 0))), (3, .int (nI (zp_all (s 1) a (s 0 0)))), (4, .int (nI (i + 1)))]) hG dX0_add_108 4 rfl (nI_add _ _) (by decide) [1, 2, 3, 4, 0] rfl ?_
              refine g_goto (tgt := 80) hG dX0_add_111 (by decide) ?_
              exact ih (i + 1) _ (by omega) (by omega) (za_f_y hf (by omega) h4)
      have p1 : ∀ (k : Nat) (i e : Nat), i ≤ s 0 0 → s 0 0 + 1 ≤ i + k → e = zp_all (s 1) a i → G (zc_ar (zc_ar (zc_ar (zc_ar s 1 (s 1)) 2 (s 2)) 3 (s 3)) 4 (s 4)) 32 [(0, .ref (q 0)), (1, .int (nI a)), (2, .int (nI (s 0 0))), (3, .int (nI e)), (4, .int (nI i))] [] := by
        intro k
        induction k with
        | zero => intros; omega
        | succ k ih =>
          intro i e hi hk he
          refine g_iload hG dX0_add_32 4 rfl ?_
          refine g_iload_n hG dX0_add_34 rfl 2 rfl ?_
          refine g_n_ge (tgt := 63) hG dX0_add_35 (by decide) (by omega) (by omega) (fun h2 => ?_) (fun h2 => ?_)
          · obtain rfl : i = s 0 0 := by omega
            subst he
            refine g_aload_n hG dX0_add_63 rfl 0 rfl ?_
            refine x_get (s := zc_ar (zc_ar (zc_ar (zc_ar s 1 (s 1)) 2 (s 2)) 3 (s 3)) 4 (s 4)) (v := .ref (q 1)) hG 1 (by decide) rfl q37 rfl dX0_add_64 ?_
            refine g_iload_n hG dX0_add_67 rfl 2 rfl ?_
            refine g_iload_n hG dX0_add_68 rfl 3 rfl ?_
            refine g_ist (s := zc_ar (zc_ar (zc_ar (zc_ar s 1 (s 1)) 2 (s 2)) 3 (s 3)) 4 (s 4)) (f := s 1) (v := s 0 0) (e := zp_all (s 1) a (s 0 0)) hG 1 rfl rfl rfl (by omega) (by decide) dX0_add_69 ?_
            refine g_eqs (s' := zc_ar (zc_ar (zc_ar (zc_ar s 1 (zc_up (s 1) (s 0 0) (zp_all (s 1) a (s 0 0)))) 2 (s 2)) 3 (s 3)) 4 (s 4)) ((zc_st_arC (by decide) _ _ _ _).trans (congrArg (fun zz_ => zc_ar zz_ 4 (s 4)) ((zc_st_arC (by decide) _ _ _ _).trans (congrArg (fun zz_ => zc_ar zz_ 3 (s 3)) ((zc_st_arC (by decide) _ _ _ _).trans (congrArg (fun zz_ => zc_ar zz_ 2 (s 2)) (zc_st_ar _ _ _ _ _))))))) ?_
            refine g_aload_n hG dX0_add_70 rfl 0 rfl ?_
            refine x_get (s := zc_ar (zc_ar (zc_ar (zc_ar s 1 (zc_up (s 1) (s 0 0) (zp_all (s 1) a (s 0 0)))) 2 (s 2)) 3 (s 3)) 4 (s 4)) (v := .ref (q 2)) hG 2 (by decide) rfl q38 rfl dX0_add_71 ?_
            refine g_iload_n hG dX0_add_74 rfl 2 rfl ?_
            refine g_iconst (v := nI 0) hG dX0_add_75 rfl ?_
            refine g_ist (s := zc_ar (zc_ar (zc_ar (zc_ar s 1 (zc_up (s 1) (s 0 0) (zp_all (s 1) a (s 0 0)))) 2 (s 2)) 3 (s 3)) 4 (s 4)) (f := s 2) (v := s 0 0) (e := 0) hG 2 rfl rfl rfl (by omega) (by decide) dX0_add_76 ?_
            refine g_eqs (s' := zc_ar (zc_ar (zc_ar (zc_ar s 1 (zc_up (s 1) (s 0 0) (zp_all (s 1) a (s 0 0)))) 2 (zc_up (s 2) (s 0 0) 0)) 3 (s 3)) 4 (s 4)) ((zc_st_arC (by decide) _ _ _ _).trans (congrArg (fun zz_ => zc_ar zz_ 4 (s 4)) ((zc_st_arC (by decide) _ _ _ _).trans (congrArg (fun zz_ => zc_ar zz_ 3 (s 3)) (zc_st_ar _ _ _ _ _))))) ?_
            refine g_iconst (v := nI 0) hG dX0_add_77 rfl ?_
            refine g_istore (lv' := [(0, .ref (q 0)), (1, .int (nI a)), (2, .int (nI (s 0 0))), (3, .int (nI (zp_all (s 1) a (s 0 0)))), (4, .int (nI 0))]) hG dX0_add_78 (by decide) [1, 2, 3, 4, 0] rfl ?_
            exact p2 (s 0 0 + 1) 0 _ (by omega) (by omega) (za_f_0 _ _ _)
          · refine g_iload_n hG dX0_add_38 rfl 1 rfl ?_
            refine g_iload hG dX0_add_39 4 rfl ?_
            refine g_ishr (z := nI (a >>> i)) hG dX0_add_41 (nx_shr (by omega) (by omega)) ?_
            refine g_iconst (v := nI 1) hG dX0_add_42 rfl ?_
            refine g_iand (z := pB (a.testBit i = true)) hG dX0_add_43 (nx_tb _ _) ?_
            refine g_b_eq (tgt := 57) hG dX0_add_44 (by decide) (fun h3 => ?_) (fun h3 => ?_)
            · refine g_iinc (v := nI (i + 1)) (lv' := [(0, .ref (q 0)), (1, .int (nI a)), (2, .int (nI (s 0 0))), (3, .int (nI e)), (4, .int (nI (i + 1)))]) hG dX0_add_57 4 rfl (nI_add _ _) (by decide) [1, 2, 3, 4, 0] rfl ?_
              refine g_goto (tgt := 32) hG dX0_add_60 (by decide) ?_
              exact ih (i + 1) e (by omega) (by omega) (by rw [he, zp_all_f h3])
            · refine g_iload_n hG dX0_add_47 rfl 3 rfl ?_
              refine g_aload_n hG dX0_add_48 rfl 0 rfl ?_
              refine x_get (s := zc_ar (zc_ar (zc_ar (zc_ar s 1 (s 1)) 2 (s 2)) 3 (s 3)) 4 (s 4)) (v := .ref (q 1)) hG 1 (by decide) rfl q37 rfl dX0_add_49 ?_
              refine g_iload hG dX0_add_52 4 rfl ?_
              refine g_ild (s := zc_ar (zc_ar (zc_ar (zc_ar s 1 (s 1)) 2 (s 2)) 3 (s 3)) 4 (s 4)) (f := s 1) (v := i) hG 1 rfl rfl (by omega) (by decide) dX0_add_54 ?_
              refine g_ior (z := nI (e ||| (s 1 i))) hG dX0_add_55 (nx_or _ _) ?_
              refine g_istore_n (lv' := [(0, .ref (q 0)), (1, .int (nI a)), (2, .int (nI (s 0 0))), (3, .int (nI (e ||| (s 1 i)))), (4, .int (nI i))]) hG dX0_add_56 rfl (by decide) [1, 2, 3, 0, 4] rfl ?_
              refine g_iinc (v := nI (i + 1)) (lv' := [(0, .ref (q 0)), (1, .int (nI a)), (2, .int (nI (s 0 0))), (3, .int (nI (e ||| (s 1 i)))), (4, .int (nI (i + 1)))]) hG dX0_add_57 4 rfl (nI_add _ _) (by decide) [1, 2, 3, 4, 0] rfl ?_
              refine g_goto (tgt := 32) hG dX0_add_60 (by decide) ?_
              exact ih (i + 1) (e ||| s 1 i) (by omega) (by omega) (by rw [he, zp_all_t h3])
      refine g_aload_n hG dX0_add_22 rfl 0 rfl ?_
      refine x_get (s := zc_ar (zc_ar (zc_ar (zc_ar s 1 (s 1)) 2 (s 2)) 3 (s 3)) 4 (s 4)) (v := .int (nI (s 0 0))) hG 0 (by decide) rfl q36 rfl dX0_add_23 ?_
      refine g_istore_n (lv' := [(0, .ref (q 0)), (1, .int (nI a)), (2, .int (nI (s 0 0)))]) hG dX0_add_26 rfl (by decide) [1, 2, 0] rfl ?_
      refine g_iload_n hG dX0_add_27 rfl 1 rfl ?_
      refine g_istore_n (lv' := [(0, .ref (q 0)), (1, .int (nI a)), (2, .int (nI (s 0 0))), (3, .int (nI a))]) hG dX0_add_28 rfl (by decide) [1, 2, 3, 0] rfl ?_
      refine g_iconst (v := nI 0) hG dX0_add_29 rfl ?_
      refine g_istore (lv' := [(0, .ref (q 0)), (1, .int (nI a)), (2, .int (nI (s 0 0))), (3, .int (nI a)), (4, .int (nI 0))]) hG dX0_add_30 (by decide) [1, 2, 3, 4, 0] rfl ?_
      exact p1 (s 0 0 + 1) 0 a (by omega) (by omega) rfl
    · refine g_iconst (v := -1) hG dX0_add_20 rfl ?_
      exact g_iret hG rfl (rfl) dX0_add_21 (Or.inr (Or.inl ⟨h1, h2, rfl, rfl⟩))
  · refine g_bipush (v := (-2)) hG dX0_add_9 (by decide) ?_
    exact g_iret hG rfl (rfl) dX0_add_11 (Or.inl ⟨by omega, rfl, rfl⟩)
set_option maxHeartbeats 4000000 in
/-- lowest() -/
theorem mX_lowest (l : Launch) (s : zS) (hI : zx_I s) : zc_M l zc_XL yX0_lowest cX0_lowest 5 4 95 (some .int) [] s (fun v s' => ∃ a, zx_eq s s' ∧ zx_I s' ∧ a < 1024 ∧ zp_Ex (s 0 0) (s 1) True a ∧ v = some (.int (nI a))) := by
  refine zc_M.of (own := RX0) rfl rfl (fun _ => Nat.le_of_ble_eq_true rfl) ?_
  intro q ca G hG
  show G s 0 [(0, .ref (q 0))] []
  have hn0 := hI.1.1
  refine g_aload_n hG dX0_lowest_0 rfl 0 rfl ?_
  refine g_call hG (mX_matchAll l s hI) 0 q140 q142 qs11 q26 q143 (by decide +kernel) rfl ⟨by decide, by decide⟩ (ci := 0) rfl rfl rfl [] rfl (by simp [Value.category]) dX0_lowest_1 ?_
  rintro _ s1 ⟨rfl, hq, hI1, hM, hOp⟩
  show G s1 4 [(0, .ref (q 0))] []
  obtain ⟨hq0, hq1, hq2⟩ := id hq
  rw [← hq0, ← hq2] at hM
  rw [← hq0, ← hq1] at hOp
  have hok := hI1.1.ok
  obtain ⟨hn, hP, hO⟩ := hI1.1
  have hp10 := zp_p10 hn
  have p2 : ∀ (k : Nat) (r U L : Nat), r ≤ s1 0 0 + 1 → s1 0 0 + 2 ≤ r + k → zo_O (s1 0 0) (s1 1) (s1 5) (s1 6) r U L → G s1 41 [(0, .ref (q 0)), (1, .int (nI U)), (2, .int (nI L)), (3, .int (nI r))] [] := by
    intro k
    induction k with
    | zero => intros; omega
    | succ k ih =>
      intro r U L hr hk hOO
      refine g_iload_n hG dX0_lowest_41 rfl 3 rfl ?_
      refine g_aload_n hG dX0_lowest_42 rfl 0 rfl ?_
      refine x_get (s := s1) (v := .int (nI (s1 0 0))) hG 0 (by decide) rfl q36 rfl dX0_lowest_43 ?_
      refine g_n_gt (tgt := 123) hG dX0_lowest_46 (by decide) (by omega) (by omega) (fun h1 => ?_) (fun h1 => ?_)
      · obtain rfl : r = s1 0 0 + 1 := by omega
        have hcl := zo_O_end hn hOO
        obtain ⟨o1, o2, o3, o4, -⟩ := hOO
        have hex := zo_low hn hP hO hM hOp o2 o1 hcl o4
        have hlt := hex.1.1
        rw [hq0, hq1] at hex
        refine g_iload_n hG dX0_lowest_123 rfl 1 rfl ?_
        refine g_iload_n hG dX0_lowest_124 rfl 2 rfl ?_
        refine g_iconst (v := -1) hG dX0_lowest_125 rfl ?_
        refine g_ixor (z := nI L ^^^ (-1)) hG dX0_lowest_126 (rfl) ?_
        refine g_iand (z := nI (zb_dif U L)) hG dX0_lowest_127 (nx_not _ _) ?_
        exact g_iret hG rfl (rfl) dX0_lowest_128 (⟨zb_dif U L, hq, hI1, by omega, hex, rfl⟩)
      · have lp2 : ∀ (k2 : Nat) (i U2 L2 : Nat), i ≤ s1 0 0 → s1 0 0 + 1 ≤ i + k2 → zo_R (s1 0 0) (s1 1) (s1 5) (s1 6) U L i U2 L2 → G s1 52 [(0, .ref (q 0)), (1, .int (nI U2)), (2, .int (nI L2)), (3, .int (nI r)), (4, .int (nI i))] [] := by
          intro k2
          induction k2 with
          | zero => intros; omega
          | succ k2 ih2 =>
            intro i U2 L2 hi hk2 hR
            refine g_iload hG dX0_lowest_52 4 rfl ?_
            refine g_aload_n hG dX0_lowest_54 rfl 0 rfl ?_
            refine x_get (s := s1) (v := .int (nI (s1 0 0))) hG 0 (by decide) rfl q36 rfl dX0_lowest_55 ?_
            refine g_n_ge (tgt := 117) hG dX0_lowest_58 (by decide) (by omega) (by omega) (fun h3 => ?_) (fun h3 => ?_)
            · obtain rfl : i = s1 0 0 := by omega
              refine g_iinc (v := nI (r + 1)) (lv' := [(0, .ref (q 0)), (1, .int (nI U2)), (2, .int (nI L2)), (3, .int (nI (r + 1))), (4, .int (nI (s1 0 0)))]) hG dX0_lowest_117 3 rfl (nI_add _ _) (by decide) [1, 2, 3, 0, 4] rfl ?_
              refine g_goto (tgt := 41) hG dX0_lowest_120 (by decide) ?_
              exact g_sub (lv' := [(0, .ref (q 0)), (1, .int (nI U2)), (2, .int (nI L2)), (3, .int (nI (r + 1)))]) hG [0, 1, 2, 3] (rfl) (ih (r + 1) U2 L2 (by omega) (by omega) (zo_O_next hn hOO hR))
            · obtain ⟨-, -, hU2, hL2⟩ := id hR.1
              have hU31 := zb_lt31 hU2 (by omega : s1 0 0 ≤ 31)
              have hb8 := hM.le (show i < s1 0 0 by omega)
              have ho8 := hok.2 i (by omega)
              have tl : ∀ L3, zo_R (s1 0 0) (s1 1) (s1 5) (s1 6) U L i U2 L3 → (U2.testBit i = true → zp_sub (s1 1 i) L3) → G s1 80 [(0, .ref (q 0)), (1, .int (nI U2)), (2, .int (nI L3)), (3, .int (nI r)), (4, .int (nI i))] [] := by
                intro L3 hR3 ha3
                have hL31 := zb_lt31 hR3.1.2.2.2 (by omega : s1 0 0 ≤ 31)
                refine g_iload_n hG dX0_lowest_80 rfl 2 rfl ?_
                refine g_iload hG dX0_lowest_81 4 rfl ?_
                refine g_ishr (z := nI (L3 >>> i)) hG dX0_lowest_83 (nx_shr (by omega) (by omega)) ?_
                refine g_iconst (v := nI 1) hG dX0_lowest_84 rfl ?_
                refine g_iand (z := pB (L3.testBit i = true)) hG dX0_lowest_85 (nx_tb _ _) ?_
                refine g_b_eq (tgt := 111) hG dX0_lowest_86 (by decide) (fun h5 => ?_) (fun h5 => ?_)
                · refine g_iinc (v := nI (i + 1)) (lv' := [(0, .ref (q 0)), (1, .int (nI U2)), (2, .int (nI L3)), (3, .int (nI r)), (4, .int (nI (i + 1)))]) hG dX0_lowest_111 4 rfl (nI_add _ _) (by decide) [1, 2, 3, 4, 0] rfl ?_
                  refine g_goto (tgt := 52) hG dX0_lowest_114 (by decide) ?_
                  exact ih2 (i + 1) U2 L3 (by omega) (by omega) (zo_R_c hR3 ha3 (fun z => absurd z h5))
                · refine g_aload_n hG dX0_lowest_89 rfl 0 rfl ?_
                  refine x_get (s := s1) (v := .ref (q 5)) hG 6 (by decide) rfl q42 rfl dX0_lowest_90 ?_
                  refine g_iload hG dX0_lowest_93 4 rfl ?_
                  refine g_bldp (s := s1) (f := s1 5) (v := i) hG 5 rfl rfl (by omega) (by decide) dX0_lowest_95 ?_
                  refine g_p_lt (tgt := 111) hG dX0_lowest_96 (by decide) (by omega) (fun h6 => ?_) (fun h6 => ?_)
                  · refine g_iinc (v := nI (i + 1)) (lv' := [(0, .ref (q 0)), (1, .int (nI U2)), (2, .int (nI L3)), (3, .int (nI r)), (4, .int (nI (i + 1)))]) hG dX0_lowest_111 4 rfl (nI_add _ _) (by decide) [1, 2, 3, 4, 0] rfl ?_
                    refine g_goto (tgt := 52) hG dX0_lowest_114 (by decide) ?_
                    exact ih2 (i + 1) U2 L3 (by omega) (by omega) (zo_R_c hR3 ha3 (fun _ => h6))
                  · obtain ⟨y, hy⟩ : ∃ y, s1 5 i = y + 1 := ⟨s1 5 i - 1, by omega⟩
                    obtain ⟨e1, e2, -⟩ := zk_edge hP hO hM (show i < s1 0 0 by omega) hy
                    refine g_iload_n hG dX0_lowest_99 rfl 1 rfl ?_
                    refine g_iconst (v := nI 1) hG dX0_lowest_100 rfl ?_
                    refine g_aload_n hG dX0_lowest_101 rfl 0 rfl ?_
                    refine x_get (s := s1) (v := .ref (q 5)) hG 6 (by decide) rfl q42 rfl dX0_lowest_102 ?_
                    refine g_iload hG dX0_lowest_105 4 rfl ?_
                    refine g_bldp (s := s1) (f := s1 5) (v := i) hG 5 rfl rfl (by omega) (by decide) dX0_lowest_107 ?_
                    refine g_as (y := nI y) (by rw [hy]; exact pI_s y) ?_
                    refine g_ishl (z := nI (2 ^ y)) hG dX0_lowest_108 (nx_shl1 y (by omega)) ?_
                    refine g_ior (z := nI (U2 ||| (2 ^ y))) hG dX0_lowest_109 (nx_or _ _) ?_
                    refine g_istore_n (lv' := [(0, .ref (q 0)), (1, .int (nI (U2 ||| (2 ^ y)))), (2, .int (nI L3)), (3, .int (nI r)), (4, .int (nI i))]) hG dX0_lowest_110 rfl (by decide) [1, 0, 2, 3, 4] rfl ?_
                    refine g_iinc (v := nI (i + 1)) (lv' := [(0, .ref (q 0)), (1, .int (nI (U2 ||| (2 ^ y)))), (2, .int (nI L3)), (3, .int (nI r)), (4, .int (nI (i + 1)))]) hG dX0_lowest_111 4 rfl (nI_add _ _) (by decide) [1, 2, 3, 4, 0] rfl ?_
                    refine g_goto (tgt := 52) hG dX0_lowest_114 (by decide) ?_
                    exact ih2 (i + 1) _ L3 (by omega) (by omega) (zo_R_b (by omega) hR3 ha3 h5 hy e1 e2)
              refine g_iload_n hG dX0_lowest_61 rfl 1 rfl ?_
              refine g_iload hG dX0_lowest_62 4 rfl ?_
              refine g_ishr (z := nI (U2 >>> i)) hG dX0_lowest_64 (nx_shr (by omega) (by omega)) ?_
              refine g_iconst (v := nI 1) hG dX0_lowest_65 rfl ?_
              refine g_iand (z := pB (U2.testBit i = true)) hG dX0_lowest_66 (nx_tb _ _) ?_
              refine g_b_eq (tgt := 80) hG dX0_lowest_67 (by decide) (fun h4 => ?_) (fun h4 => ?_)
              · exact tl L2 hR (fun z => absurd z h4)
              · have hA := zo_R_a hP (show i < s1 0 0 by omega) hR h4
                refine g_iload_n hG dX0_lowest_70 rfl 2 rfl ?_
                refine g_aload_n hG dX0_lowest_71 rfl 0 rfl ?_
                refine x_get (s := s1) (v := .ref (q 1)) hG 1 (by decide) rfl q37 rfl dX0_lowest_72 ?_
                refine g_iload hG dX0_lowest_75 4 rfl ?_
                refine g_ild (s := s1) (f := s1 1) (v := i) hG 1 rfl rfl (by omega) (by decide) dX0_lowest_77 ?_
                refine g_ior (z := nI (L2 ||| (s1 1 i))) hG dX0_lowest_78 (nx_or _ _) ?_
                refine g_istore_n (lv' := [(0, .ref (q 0)), (1, .int (nI U2)), (2, .int (nI (L2 ||| (s1 1 i)))), (3, .int (nI r)), (4, .int (nI i))]) hG dX0_lowest_79 rfl (by decide) [1, 2, 0, 3, 4] rfl ?_
                exact tl _ hA.1 (fun _ => hA.2)
        refine g_iconst (v := nI 0) hG dX0_lowest_49 rfl ?_
        refine g_istore (lv' := [(0, .ref (q 0)), (1, .int (nI U)), (2, .int (nI L)), (3, .int (nI r)), (4, .int (nI 0))]) hG dX0_lowest_50 (by decide) [1, 2, 3, 4, 0] rfl ?_
        exact lp2 (s1 0 0 + 1) 0 U L (by omega) (by omega) (zo_R_0 hOO.2.1 hOO.2.2.1 hOO.2.2.2.1)
  have p1 : ∀ (k : Nat) (i U : Nat), i ≤ s1 0 0 → s1 0 0 + 1 ≤ i + k → zo_i (s1 0 0) (s1 6) i U → G s1 8 [(0, .ref (q 0)), (1, .int (nI U)), (2, .int (nI i))] [] := by
    intro k
    induction k with
    | zero => intros; omega
    | succ k ih =>
      intro i U hi hk hi0
      refine g_iload_n hG dX0_lowest_8 rfl 2 rfl ?_
      refine g_aload_n hG dX0_lowest_9 rfl 0 rfl ?_
      refine x_get (s := s1) (v := .int (nI (s1 0 0))) hG 0 (by decide) rfl q36 rfl dX0_lowest_10 ?_
      refine g_n_ge (tgt := 37) hG dX0_lowest_13 (by decide) (by omega) (by omega) (fun h1 => ?_) (fun h1 => ?_)
      · obtain rfl : i = s1 0 0 := by omega
        refine g_iconst (v := nI 0) hG dX0_lowest_37 rfl ?_
        refine g_istore_n (lv' := [(0, .ref (q 0)), (1, .int (nI U)), (2, .int (nI 0))]) hG dX0_lowest_38 rfl (by decide) [1, 2, 0] rfl ?_
        refine g_iconst (v := nI 0) hG dX0_lowest_39 rfl ?_
        refine g_istore_n (lv' := [(0, .ref (q 0)), (1, .int (nI U)), (2, .int (nI 0)), (3, .int (nI 0))]) hG dX0_lowest_40 rfl (by decide) [1, 2, 3, 0] rfl ?_
        exact p2 (s1 0 0 + 2) 0 U 0 (by omega) (by omega) (zo_O_0 hi0)
      · have hb8 := hM.le (show i < s1 0 0 by omega)
        refine g_aload_n hG dX0_lowest_16 rfl 0 rfl ?_
        refine x_get (s := s1) (v := .ref (q 6)) hG 7 (by decide) rfl q43 rfl dX0_lowest_17 ?_
        refine g_iload_n hG dX0_lowest_20 rfl 2 rfl ?_
        refine g_bldp (s := s1) (f := s1 6) (v := i) hG 6 rfl rfl (by omega) (by decide) dX0_lowest_21 ?_
        refine g_p_ge (tgt := 31) hG dX0_lowest_22 (by decide) (by omega) (fun h2 => ?_) (fun h2 => ?_)
        · refine g_iinc (v := nI (i + 1)) (lv' := [(0, .ref (q 0)), (1, .int (nI U)), (2, .int (nI (i + 1)))]) hG dX0_lowest_31 2 rfl (nI_add _ _) (by decide) [1, 2, 0] rfl ?_
          refine g_goto (tgt := 8) hG dX0_lowest_34 (by decide) ?_
          exact ih (i + 1) U (by omega) (by omega) (zo_i_n hi0 h2)
        · refine g_iload_n hG dX0_lowest_25 rfl 1 rfl ?_
          refine g_iconst (v := nI 1) hG dX0_lowest_26 rfl ?_
          refine g_iload_n hG dX0_lowest_27 rfl 2 rfl ?_
          refine g_ishl (z := nI (2 ^ i)) hG dX0_lowest_28 (nx_shl1 i (by omega)) ?_
          refine g_ior (z := nI (U ||| (2 ^ i))) hG dX0_lowest_29 (nx_or _ _) ?_
          refine g_istore_n (lv' := [(0, .ref (q 0)), (1, .int (nI (U ||| (2 ^ i)))), (2, .int (nI i))]) hG dX0_lowest_30 rfl (by decide) [1, 0, 2] rfl ?_
          refine g_iinc (v := nI (i + 1)) (lv' := [(0, .ref (q 0)), (1, .int (nI (U ||| (2 ^ i)))), (2, .int (nI (i + 1)))]) hG dX0_lowest_31 2 rfl (nI_add _ _) (by decide) [1, 2, 0] rfl ?_
          refine g_goto (tgt := 8) hG dX0_lowest_34 (by decide) ?_
          exact ih (i + 1) _ (by omega) (by omega) (zo_i_y hi0 (by omega) h2)
  refine g_iconst (v := nI 0) hG dX0_lowest_4 rfl ?_
  refine g_istore_n (lv' := [(0, .ref (q 0)), (1, .int (nI 0))]) hG dX0_lowest_5 rfl (by decide) [1, 0] rfl ?_
  refine g_iconst (v := nI 0) hG dX0_lowest_6 rfl ?_
  refine g_istore_n (lv' := [(0, .ref (q 0)), (1, .int (nI 0)), (2, .int (nI 0))]) hG dX0_lowest_7 rfl (by decide) [1, 2, 0] rfl ?_
  exact p1 (s1 0 0 + 1) 0 0 (by omega) (by omega) (zo_i_0 _ _)
set_option maxHeartbeats 4000000 in
/-- highest() -/
theorem mX_highest (l : Launch) (s : zS) (hI : zx_I s) : zc_M l zc_XL yX0_highest cX0_highest 5 4 95 (some .int) [] s (fun v s' => ∃ a, zx_eq s s' ∧ zx_I s' ∧ a < 1024 ∧ zp_Ex (s 0 0) (s 1) False a ∧ v = some (.int (nI a))) := by
  refine zc_M.of (own := RX0) rfl rfl (fun _ => Nat.le_of_ble_eq_true rfl) ?_
  intro q ca G hG
  show G s 0 [(0, .ref (q 0))] []
  have hn0 := hI.1.1
  refine g_aload_n hG dX0_highest_0 rfl 0 rfl ?_
  refine g_call hG (mX_matchAll l s hI) 0 q140 q142 qs11 q26 q143 (by decide +kernel) rfl ⟨by decide, by decide⟩ (ci := 0) rfl rfl rfl [] rfl (by simp [Value.category]) dX0_highest_1 ?_
  rintro _ s1 ⟨rfl, hq, hI1, hM, hOp⟩
  show G s1 4 [(0, .ref (q 0))] []
  obtain ⟨hq0, hq1, hq2⟩ := id hq
  rw [← hq0, ← hq2] at hM
  rw [← hq0, ← hq1] at hOp
  have hok := hI1.1.ok
  obtain ⟨hn, hP, hO⟩ := hI1.1
  have hp10 := zp_p10 hn
  have p2 : ∀ (k : Nat) (r U L : Nat), r ≤ s1 0 0 + 1 → s1 0 0 + 2 ≤ r + k → zh_O (s1 0 0) (s1 2) (s1 6) (s1 5) r U L → G s1 41 [(0, .ref (q 0)), (1, .int (nI U)), (2, .int (nI L)), (3, .int (nI r))] [] := by
    intro k
    induction k with
    | zero => intros; omega
    | succ k ih =>
      intro r U L hr hk hOO
      refine g_iload_n hG dX0_highest_41 rfl 3 rfl ?_
      refine g_aload_n hG dX0_highest_42 rfl 0 rfl ?_
      refine x_get (s := s1) (v := .int (nI (s1 0 0))) hG 0 (by decide) rfl q36 rfl dX0_highest_43 ?_
      refine g_n_gt (tgt := 123) hG dX0_highest_46 (by decide) (by omega) (by omega) (fun h1 => ?_) (fun h1 => ?_)
      · obtain rfl : r = s1 0 0 + 1 := by omega
        have hcl := zh_O_end hn hOO
        obtain ⟨o1, o2, o3, o4, -⟩ := hOO
        have hex := zo_high hn hP hO hM hOp o2 o3 o1 hcl o4
        have hlt := hex.1.1
        rw [hq0, hq1] at hex
        refine g_iload_n hG dX0_highest_123 rfl 1 rfl ?_
        refine g_iload_n hG dX0_highest_124 rfl 2 rfl ?_
        refine g_iconst (v := -1) hG dX0_highest_125 rfl ?_
        refine g_ixor (z := nI L ^^^ (-1)) hG dX0_highest_126 (rfl) ?_
        refine g_iand (z := nI (zb_dif U L)) hG dX0_highest_127 (nx_not _ _) ?_
        exact g_iret hG rfl (rfl) dX0_highest_128 (⟨zb_dif U L, hq, hI1, by omega, hex, rfl⟩)
      · have lp2 : ∀ (k2 : Nat) (i U2 L2 : Nat), i ≤ s1 0 0 → s1 0 0 + 1 ≤ i + k2 → zh_R (s1 0 0) (s1 2) (s1 6) (s1 5) U L i U2 L2 → G s1 52 [(0, .ref (q 0)), (1, .int (nI U2)), (2, .int (nI L2)), (3, .int (nI r)), (4, .int (nI i))] [] := by
          intro k2
          induction k2 with
          | zero => intros; omega
          | succ k2 ih2 =>
            intro i U2 L2 hi hk2 hR
            refine g_iload hG dX0_highest_52 4 rfl ?_
            refine g_aload_n hG dX0_highest_54 rfl 0 rfl ?_
            refine x_get (s := s1) (v := .int (nI (s1 0 0))) hG 0 (by decide) rfl q36 rfl dX0_highest_55 ?_
            refine g_n_ge (tgt := 117) hG dX0_highest_58 (by decide) (by omega) (by omega) (fun h3 => ?_) (fun h3 => ?_)
            · obtain rfl : i = s1 0 0 := by omega
              refine g_iinc (v := nI (r + 1)) (lv' := [(0, .ref (q 0)), (1, .int (nI U2)), (2, .int (nI L2)), (3, .int (nI (r + 1))), (4, .int (nI (s1 0 0)))]) hG dX0_highest_117 3 rfl (nI_add _ _) (by decide) [1, 2, 3, 0, 4] rfl ?_
              refine g_goto (tgt := 41) hG dX0_highest_120 (by decide) ?_
              exact g_sub (lv' := [(0, .ref (q 0)), (1, .int (nI U2)), (2, .int (nI L2)), (3, .int (nI (r + 1)))]) hG [0, 1, 2, 3] (rfl) (ih (r + 1) U2 L2 (by omega) (by omega) (zh_O_next hn hOO hR))
            · obtain ⟨-, -, hU2, hL2⟩ := id hR.1
              have hU31 := zb_lt31 hU2 (by omega : s1 0 0 ≤ 31)
              have hb8 := hM.le (show i < s1 0 0 by omega)
              have ho8 := hok.2 i (by omega)
              have tl : ∀ L3, zh_R (s1 0 0) (s1 2) (s1 6) (s1 5) U L i U2 L3 → (U2.testBit i = true → zp_sub (s1 2 i) L3) → G s1 80 [(0, .ref (q 0)), (1, .int (nI U2)), (2, .int (nI L3)), (3, .int (nI r)), (4, .int (nI i))] [] := by
                intro L3 hR3 ha3
                have hL31 := zb_lt31 hR3.1.2.2.2 (by omega : s1 0 0 ≤ 31)
                refine g_iload_n hG dX0_highest_80 rfl 2 rfl ?_
                refine g_iload hG dX0_highest_81 4 rfl ?_
                refine g_ishr (z := nI (L3 >>> i)) hG dX0_highest_83 (nx_shr (by omega) (by omega)) ?_
                refine g_iconst (v := nI 1) hG dX0_highest_84 rfl ?_
                refine g_iand (z := pB (L3.testBit i = true)) hG dX0_highest_85 (nx_tb _ _) ?_
                refine g_b_eq (tgt := 111) hG dX0_highest_86 (by decide) (fun h5 => ?_) (fun h5 => ?_)
                · refine g_iinc (v := nI (i + 1)) (lv' := [(0, .ref (q 0)), (1, .int (nI U2)), (2, .int (nI L3)), (3, .int (nI r)), (4, .int (nI (i + 1)))]) hG dX0_highest_111 4 rfl (nI_add _ _) (by decide) [1, 2, 3, 4, 0] rfl ?_
                  refine g_goto (tgt := 52) hG dX0_highest_114 (by decide) ?_
                  exact ih2 (i + 1) U2 L3 (by omega) (by omega) (zh_R_c hR3 ha3 (fun z => absurd z h5))
                · refine g_aload_n hG dX0_highest_89 rfl 0 rfl ?_
                  refine x_get (s := s1) (v := .ref (q 6)) hG 7 (by decide) rfl q43 rfl dX0_highest_90 ?_
                  refine g_iload hG dX0_highest_93 4 rfl ?_
                  refine g_bldp (s := s1) (f := s1 6) (v := i) hG 6 rfl rfl (by omega) (by decide) dX0_highest_95 ?_
                  refine g_p_lt (tgt := 111) hG dX0_highest_96 (by decide) (by omega) (fun h6 => ?_) (fun h6 => ?_)
                  · refine g_iinc (v := nI (i + 1)) (lv' := [(0, .ref (q 0)), (1, .int (nI U2)), (2, .int (nI L3)), (3, .int (nI r)), (4, .int (nI (i + 1)))]) hG dX0_highest_111 4 rfl (nI_add _ _) (by decide) [1, 2, 3, 4, 0] rfl ?_
                    refine g_goto (tgt := 52) hG dX0_highest_114 (by decide) ?_
                    exact ih2 (i + 1) U2 L3 (by omega) (by omega) (zh_R_c hR3 ha3 (fun _ => h6))
                  · obtain ⟨y, hy⟩ : ∃ y, s1 6 i = y + 1 := ⟨s1 6 i - 1, by omega⟩
                    have e1 := (hM.2 i (by omega) y hy).1
                    refine g_iload_n hG dX0_highest_99 rfl 1 rfl ?_
                    refine g_iconst (v := nI 1) hG dX0_highest_100 rfl ?_
                    refine g_aload_n hG dX0_highest_101 rfl 0 rfl ?_
                    refine x_get (s := s1) (v := .ref (q 6)) hG 7 (by decide) rfl q43 rfl dX0_highest_102 ?_
                    refine g_iload hG dX0_highest_105 4 rfl ?_
                    refine g_bldp (s := s1) (f := s1 6) (v := i) hG 6 rfl rfl (by omega) (by decide) dX0_highest_107 ?_
                    refine g_as (y := nI y) (by rw [hy]; exact pI_s y) ?_
                    refine g_ishl (z := nI (2 ^ y)) hG dX0_highest_108 (nx_shl1 y (by omega)) ?_
                    refine g_ior (z := nI (U2 ||| (2 ^ y))) hG dX0_highest_109 (nx_or _ _) ?_
                    refine g_istore_n (lv' := [(0, .ref (q 0)), (1, .int (nI (U2 ||| (2 ^ y)))), (2, .int (nI L3)), (3, .int (nI r)), (4, .int (nI i))]) hG dX0_highest_110 rfl (by decide) [1, 0, 2, 3, 4] rfl ?_
                    refine g_iinc (v := nI (i + 1)) (lv' := [(0, .ref (q 0)), (1, .int (nI (U2 ||| (2 ^ y)))), (2, .int (nI L3)), (3, .int (nI r)), (4, .int (nI (i + 1)))]) hG dX0_highest_111 4 rfl (nI_add _ _) (by decide) [1, 2, 3, 4, 0] rfl ?_
                    refine g_goto (tgt := 52) hG dX0_highest_114 (by decide) ?_
                    exact ih2 (i + 1) _ L3 (by omega) (by omega) (zh_R_b (by omega) hR3 ha3 h5 hy e1)
              refine g_iload_n hG dX0_highest_61 rfl 1 rfl ?_
              refine g_iload hG dX0_highest_62 4 rfl ?_
              refine g_ishr (z := nI (U2 >>> i)) hG dX0_highest_64 (nx_shr (by omega) (by omega)) ?_
              refine g_iconst (v := nI 1) hG dX0_highest_65 rfl ?_
              refine g_iand (z := pB (U2.testBit i = true)) hG dX0_highest_66 (nx_tb _ _) ?_
              refine g_b_eq (tgt := 80) hG dX0_highest_67 (by decide) (fun h4 => ?_) (fun h4 => ?_)
              · exact tl L2 hR (fun z => absurd z h4)
              · have hA := zh_R_a (fun y hy => by have := hO.lt hP (show i < s1 0 0 by omega) hy; exact ⟨this.2.1, this.1⟩) (show i < s1 0 0 by omega) hR h4
                refine g_iload_n hG dX0_highest_70 rfl 2 rfl ?_
                refine g_aload_n hG dX0_highest_71 rfl 0 rfl ?_
                refine x_get (s := s1) (v := .ref (q 2)) hG 2 (by decide) rfl q38 rfl dX0_highest_72 ?_
                refine g_iload hG dX0_highest_75 4 rfl ?_
                refine g_ild (s := s1) (f := s1 2) (v := i) hG 2 rfl rfl (by omega) (by decide) dX0_highest_77 ?_
                refine g_ior (z := nI (L2 ||| (s1 2 i))) hG dX0_highest_78 (nx_or _ _) ?_
                refine g_istore_n (lv' := [(0, .ref (q 0)), (1, .int (nI U2)), (2, .int (nI (L2 ||| (s1 2 i)))), (3, .int (nI r)), (4, .int (nI i))]) hG dX0_highest_79 rfl (by decide) [1, 2, 0, 3, 4] rfl ?_
                exact tl _ hA.1 (fun _ => hA.2)
        refine g_iconst (v := nI 0) hG dX0_highest_49 rfl ?_
        refine g_istore (lv' := [(0, .ref (q 0)), (1, .int (nI U)), (2, .int (nI L)), (3, .int (nI r)), (4, .int (nI 0))]) hG dX0_highest_50 (by decide) [1, 2, 3, 4, 0] rfl ?_
        exact lp2 (s1 0 0 + 1) 0 U L (by omega) (by omega) (zh_R_0 hOO.2.1 hOO.2.2.1 hOO.2.2.2.1)
  have p1 : ∀ (k : Nat) (i U : Nat), i ≤ s1 0 0 → s1 0 0 + 1 ≤ i + k → zo_i (s1 0 0) (s1 5) i U → G s1 8 [(0, .ref (q 0)), (1, .int (nI U)), (2, .int (nI i))] [] := by
    intro k
    induction k with
    | zero => intros; omega
    | succ k ih =>
      intro i U hi hk hi0
      refine g_iload_n hG dX0_highest_8 rfl 2 rfl ?_
      refine g_aload_n hG dX0_highest_9 rfl 0 rfl ?_
      refine x_get (s := s1) (v := .int (nI (s1 0 0))) hG 0 (by decide) rfl q36 rfl dX0_highest_10 ?_
      refine g_n_ge (tgt := 37) hG dX0_highest_13 (by decide) (by omega) (by omega) (fun h1 => ?_) (fun h1 => ?_)
      · obtain rfl : i = s1 0 0 := by omega
        refine g_iconst (v := nI 0) hG dX0_highest_37 rfl ?_
        refine g_istore_n (lv' := [(0, .ref (q 0)), (1, .int (nI U)), (2, .int (nI 0))]) hG dX0_highest_38 rfl (by decide) [1, 2, 0] rfl ?_
        refine g_iconst (v := nI 0) hG dX0_highest_39 rfl ?_
        refine g_istore_n (lv' := [(0, .ref (q 0)), (1, .int (nI U)), (2, .int (nI 0)), (3, .int (nI 0))]) hG dX0_highest_40 rfl (by decide) [1, 2, 3, 0] rfl ?_
        exact p2 (s1 0 0 + 2) 0 U 0 (by omega) (by omega) (zh_O_0 hi0)
      · have hb8 := hM.le (show i < s1 0 0 by omega)
        refine g_aload_n hG dX0_highest_16 rfl 0 rfl ?_
        refine x_get (s := s1) (v := .ref (q 5)) hG 6 (by decide) rfl q42 rfl dX0_highest_17 ?_
        refine g_iload_n hG dX0_highest_20 rfl 2 rfl ?_
        refine g_bldp (s := s1) (f := s1 5) (v := i) hG 5 rfl rfl (by omega) (by decide) dX0_highest_21 ?_
        refine g_p_ge (tgt := 31) hG dX0_highest_22 (by decide) (by omega) (fun h2 => ?_) (fun h2 => ?_)
        · refine g_iinc (v := nI (i + 1)) (lv' := [(0, .ref (q 0)), (1, .int (nI U)), (2, .int (nI (i + 1)))]) hG dX0_highest_31 2 rfl (nI_add _ _) (by decide) [1, 2, 0] rfl ?_
          refine g_goto (tgt := 8) hG dX0_highest_34 (by decide) ?_
          exact ih (i + 1) U (by omega) (by omega) (zo_i_n hi0 h2)
        · refine g_iload_n hG dX0_highest_25 rfl 1 rfl ?_
          refine g_iconst (v := nI 1) hG dX0_highest_26 rfl ?_
          refine g_iload_n hG dX0_highest_27 rfl 2 rfl ?_
          refine g_ishl (z := nI (2 ^ i)) hG dX0_highest_28 (nx_shl1 i (by omega)) ?_
          refine g_ior (z := nI (U ||| (2 ^ i))) hG dX0_highest_29 (nx_or _ _) ?_
          refine g_istore_n (lv' := [(0, .ref (q 0)), (1, .int (nI (U ||| (2 ^ i)))), (2, .int (nI i))]) hG dX0_highest_30 rfl (by decide) [1, 0, 2] rfl ?_
          refine g_iinc (v := nI (i + 1)) (lv' := [(0, .ref (q 0)), (1, .int (nI (U ||| (2 ^ i)))), (2, .int (nI (i + 1)))]) hG dX0_highest_31 2 rfl (nI_add _ _) (by decide) [1, 2, 0] rfl ?_
          refine g_goto (tgt := 8) hG dX0_highest_34 (by decide) ?_
          exact ih (i + 1) _ (by omega) (by omega) (zo_i_y hi0 (by omega) h2)
  refine g_iconst (v := nI 0) hG dX0_highest_4 rfl ?_
  refine g_istore_n (lv' := [(0, .ref (q 0)), (1, .int (nI 0))]) hG dX0_highest_5 rfl (by decide) [1, 0] rfl ?_
  refine g_iconst (v := nI 0) hG dX0_highest_6 rfl ?_
  refine g_istore_n (lv' := [(0, .ref (q 0)), (1, .int (nI 0)), (2, .int (nI 0))]) hG dX0_highest_7 rfl (by decide) [1, 2, 0] rfl ?_
  exact p1 (s1 0 0 + 1) 0 0 (by omega) (by omega) (zo_i_0 _ _)
end
section
set_option maxRecDepth 100000
/-- the states behind the constructors -/
def zi_s0 : zS := fun k j => if k = 0 then (if j = 1 then 1 else 0) else if 3 ≤ k ∧ k ≤ 6 then 1 else 0
def zi_m0 : zS := fun _ _ => 0
def zi_q (h0 q1 q2 q3 q4 q5 q6 q7 q8 q9 : Nat) : Nat → Nat := fun k => match k with
  | 0 => h0
  | 1 => q1
  | 2 => q2
  | 3 => q3
  | 4 => q4
  | 5 => q5
  | 6 => q6
  | 7 => q7
  | 8 => q8
  | _ => q9
theorem zi_i {D : va_G} {cl : List vw_C} {a b c : ClassId} {s : State} (h : va_K D cl [(a, .int), (b, .byte), (c, .int)] s) : c = a := Option.some.inj ((h.2 2 _ rfl).2.symm.trans (h.2 0 _ rfl).2)
theorem zi_b {D : va_G} {cl : List vw_C} {a b c : ClassId} {s : State} (h : va_K D cl [(a, .int), (b, .byte), (c, .byte)] s) : c = b := Option.some.inj ((h.2 2 _ rfl).2.symm.trans (h.2 1 _ rfl).2)
theorem zi_p1 : pI 1 = 0 := by decide
theorem zi_XL (ca : Nat → ClassId) (h0 q1 q2 q3 q4 q5 q6 q7 q8 q9 : Nat) : zc_XL (zi_q h0 q1 q2 q3 q4 q5 q6 q7 q8 q9) ca zi_s0 = [(h0, .inr (0, [.int 0, .ref q1, .ref q2, .int 1, .ref q3, .ref q4, .ref q5, .ref q6, .ref q7, .ref q8, .ref q9])), (q1, .inl (ca 0, 10, .inl (fun _ => 0))), (q2, .inl (ca 0, 10, .inl (fun _ => 0))), (q3, .inl (ca 1, 10, .inl (fun _ => 0))), (q4, .inl (ca 1, 10, .inl (fun _ => 0))), (q5, .inl (ca 1, 10, .inl (fun _ => 0))), (q6, .inl (ca 1, 10, .inl (fun _ => 0))), (q7, .inl (ca 1, 10, .inl (fun _ => 0))), (q8, .inl (ca 1, 10, .inl (fun _ => 0))), (q9, .inl (ca 1, 10, .inl (fun _ => 0)))] := by
  have e : (fun _ : Nat => pI 1) = fun _ : Nat => (0 : Int32) := by funext _; exact zi_p1
  show ([(h0, .inr (0, [.int 0, .ref q1, .ref q2, .int 1, .ref q3, .ref q4, .ref q5, .ref q6, .ref q7, .ref q8, .ref q9])), (q1, .inl (ca 0, 10, .inl (fun _ => 0))), (q2, .inl (ca 0, 10, .inl (fun _ => 0))), (q3, .inl (ca 1, 10, .inl (fun _ => pI 1))), (q4, .inl (ca 1, 10, .inl (fun _ => pI 1))), (q5, .inl (ca 1, 10, .inl (fun _ => pI 1))), (q6, .inl (ca 1, 10, .inl (fun _ => pI 1))), (q7, .inl (ca 1, 10, .inl (fun _ => 0))), (q8, .inl (ca 1, 10, .inl (fun _ => 0))), (q9, .inl (ca 1, 10, .inl (fun _ => 0)))] : va_W) = _
  rw [e]

set_option maxHeartbeats 4000000 in
theorem zi_X (l : Launch) (D : va_G) (ca : Nat → ClassId) (h0 sz : Nat) : Met l yX0_init (ws_ yX0_init cX0_init 1 none) ({ frames := 1, cells := 9, slots := 90, locals := 12 }) (va_Pc [.ref h0] (fun U => U.heap.size = sz ∧ va_P D vwCl [(h0, .inr (0, [.int 0, .null, .null, .int 0, .null, .null, .null, .null, .null, .null, .null]))] U.heap ∧ va_K D vwCl (zc_ty ca) U ∧ va_D (fun _ => True) [(h0, .inr (0, [.int 0, .null, .null, .int 0, .null, .null, .null, .null, .null, .null, .null]))])) (va_Qv (fun _ : Nat → Nat => True) (fun q t => q 0 = h0 ∧ va_P D vwCl (zc_XL q ca zi_s0) t.heap ∧ va_K D vwCl (zc_ty ca) t ∧ va_D (va_A [(h0, .inr (0, [.int 0, .null, .null, .int 0, .null, .null, .null, .null, .null, .null, .null]))] sz) (zc_XL q ca zi_s0)) (va_A [(h0, .inr (0, [.int 0, .null, .null, .int 0, .null, .null, .null, .null, .null, .null, .null]))] sz)) 9 90 (va_A [(h0, .inr (0, [.int 0, .null, .null, .int 0, .null, .null, .null, .null, .null, .null, .null]))] sz) := by
  refine Met.ofW (cc := cX0_init) (maxL := 1) (ret := none) (by decide) rfl ?_
  intro p e s m args below meth c s₁ B hml hv
  obtain ⟨rfl, hsz, hP, hK, hD0⟩ := hv
  have hx := B.exec
  have hb := B.bytes
  have hr := B.returns
  have hts := atoms_spec (ws := ws_ yX0_init cX0_init 1 none) B.pre
  have hts : ∀ w ∈ lw_all, w.before _ s = true := fun w h => hts w (List.mem_cons_of_mem _ h)
  have hown : s.vm.findClass RX0 = some m.cls := findClass_of_methodNamed B.named
  have hlocks := B.notSynchronized
  have hin : meth.name = "<init>" := (name_of_methodNamed B.named B.method).1
  subst hsz
  have hD := hD0.self (sz := s.heap.size)
  generalize hAe : va_A [(h0, .inr (0, [.int 0, .null, .null, .int 0, .null, .null, .null, .null, .null, .null, .null]))] s.heap.size = A at hD ⊢
  have hA : ∀ q : Nat, s.heap.size ≤ q → A q := fun q h => by rw [← hAe]; exact Or.inr h
  have hS : va_S A s.heap s.heap [] := va_S.rf
  have hl := lv_entry ([.ref h0]) (n := 1) (Nat.le_of_ble_eq_true rfl)
  rw [lg_entry_eq]
  generalize (lg_sl ([.ref h0]) ++ List.replicate (1 - (lg_sl ([.ref h0])).length) Slot.unset).toArray = ls at hl ⊢
  have hl : lv_has ls 1 [(0, .ref h0)] := hl
  refine lv_aload_n hx hb dX0_init_0 rfl (lv_at hl 0 rfl) ?_
  refine W.objInit hx hb hown (hts _ q33) (hts _ q34) (hts _ q35) rfl (by rw [hml]; exact hl.1) rfl dX0_init_1 (Nat.le_of_ble_eq_true rfl) (Nat.le_of_ble_eq_true rfl) ?_
  refine W.eq (g2 := F0 m 4 ls []) rfl ?_
  refine lv_aload_n hx hb dX0_init_4 rfl (lv_at hl 0 rfl) ?_
  refine lv_bipush (v := 10) hx hb dX0_init_5 (by decide) ?_
  refine va_newa (atype := .int) (ty := .int) (N' := 10) (a0 := (10, .inl (fun _ => 0))) hx hb (hts _ q70) rfl hK hP hD hS hA (fun _ => rfl) (by decide) (by decide) (by decide) (Nat.le_of_ble_eq_true rfl) (Nat.le_of_ble_eq_true rfl) dX0_init_7 (fun q1 c_ H hK hP hD hS => ?_)
  obtain rfl : c_ = ca 0 := zi_i hK
  have hK : va_K D vwCl (zc_ty ca) s := hK.sub [0, 1] rfl
  have hP : va_P D vwCl [(h0, .inr (0, [.int 0, .null, .null, .int 0, .null, .null, .null, .null, .null, .null, .null])), (q1, .inl (ca 0, 10, .inl (fun _ => 0)))] H := hP
  have hD : va_D A [(h0, .inr (0, [.int 0, .null, .null, .int 0, .null, .null, .null, .null, .null, .null, .null])), (q1, .inl (ca 0, 10, .inl (fun _ => 0)))] := hD
  refine va_putF (D := D) (ci := 0) (v := .ref q1) (ty := .array .int) (C := RX0) (T := TX0) (N := 11) hx hb hts in_X0 tyX0 tyX0_ok nmX0 hown hK hP hD hS 0 rfl rfl 1 (by decide) (hts _ q37) (fun _ h9 => h9) rfl hin rfl (by decide +kernel) rfl rfl (Nat.le_of_ble_eq_true rfl) dX0_init_9 (fun H locs hP hD hS => ?_)
  have hP : va_P D vwCl [(h0, .inr (0, [.int 0, .ref q1, .null, .int 0, .null, .null, .null, .null, .null, .null, .null])), (q1, .inl (ca 0, 10, .inl (fun _ => 0)))] H := hP
  have hD : va_D A [(h0, .inr (0, [.int 0, .ref q1, .null, .int 0, .null, .null, .null, .null, .null, .null, .null])), (q1, .inl (ca 0, 10, .inl (fun _ => 0)))] := hD
  refine lv_aload_n hx hb dX0_init_12 rfl (lv_at hl 0 rfl) ?_
  refine lv_bipush (v := 10) hx hb dX0_init_13 (by decide) ?_
  refine va_newa (atype := .int) (ty := .int) (N' := 10) (a0 := (10, .inl (fun _ => 0))) hx hb (hts _ q70) rfl hK hP hD hS hA (fun _ => rfl) (by decide) (by decide) (by decide) (Nat.le_of_ble_eq_true rfl) (Nat.le_of_ble_eq_true rfl) dX0_init_15 (fun q2 c_ H hK hP hD hS => ?_)
  obtain rfl : c_ = ca 0 := zi_i hK
  have hK : va_K D vwCl (zc_ty ca) s := hK.sub [0, 1] rfl
  have hP : va_P D vwCl [(h0, .inr (0, [.int 0, .ref q1, .null, .int 0, .null, .null, .null, .null, .null, .null, .null])), (q1, .inl (ca 0, 10, .inl (fun _ => 0))), (q2, .inl (ca 0, 10, .inl (fun _ => 0)))] H := hP
  have hD : va_D A [(h0, .inr (0, [.int 0, .ref q1, .null, .int 0, .null, .null, .null, .null, .null, .null, .null])), (q1, .inl (ca 0, 10, .inl (fun _ => 0))), (q2, .inl (ca 0, 10, .inl (fun _ => 0)))] := hD
  refine va_putF (D := D) (ci := 0) (v := .ref q2) (ty := .array .int) (C := RX0) (T := TX0) (N := 11) hx hb hts in_X0 tyX0 tyX0_ok nmX0 hown hK hP hD hS 0 rfl rfl 2 (by decide) (hts _ q38) (fun _ h9 => h9) rfl hin rfl (by decide +kernel) rfl rfl (Nat.le_of_ble_eq_true rfl) dX0_init_17 (fun H locs hP hD hS => ?_)
  have hP : va_P D vwCl [(h0, .inr (0, [.int 0, .ref q1, .ref q2, .int 0, .null, .null, .null, .null, .null, .null, .null])), (q1, .inl (ca 0, 10, .inl (fun _ => 0))), (q2, .inl (ca 0, 10, .inl (fun _ => 0)))] H := hP
  have hD : va_D A [(h0, .inr (0, [.int 0, .ref q1, .ref q2, .int 0, .null, .null, .null, .null, .null, .null, .null])), (q1, .inl (ca 0, 10, .inl (fun _ => 0))), (q2, .inl (ca 0, 10, .inl (fun _ => 0)))] := hD
  refine lv_aload_n hx hb dX0_init_20 rfl (lv_at hl 0 rfl) ?_
  refine lv_bipush (v := 10) hx hb dX0_init_21 (by decide) ?_
  refine va_newa (atype := .byte) (ty := .byte) (N' := 10) (a0 := (10, .inl (fun _ => 0))) hx hb (hts _ q71) rfl hK hP hD hS hA (fun _ => rfl) (by decide) (by decide) (by decide) (Nat.le_of_ble_eq_true rfl) (Nat.le_of_ble_eq_true rfl) dX0_init_23 (fun q3 c_ H hK hP hD hS => ?_)
  obtain rfl : c_ = ca 1 := zi_b hK
  have hK : va_K D vwCl (zc_ty ca) s := hK.sub [0, 1] rfl
  have hP : va_P D vwCl [(h0, .inr (0, [.int 0, .ref q1, .ref q2, .int 0, .null, .null, .null, .null, .null, .null, .null])), (q1, .inl (ca 0, 10, .inl (fun _ => 0))), (q2, .inl (ca 0, 10, .inl (fun _ => 0))), (q3, .inl (ca 1, 10, .inl (fun _ => 0)))] H := hP
  have hD : va_D A [(h0, .inr (0, [.int 0, .ref q1, .ref q2, .int 0, .null, .null, .null, .null, .null, .null, .null])), (q1, .inl (ca 0, 10, .inl (fun _ => 0))), (q2, .inl (ca 0, 10, .inl (fun _ => 0))), (q3, .inl (ca 1, 10, .inl (fun _ => 0)))] := hD
  refine va_putF (D := D) (ci := 0) (v := .ref q3) (ty := .array .byte) (C := RX0) (T := TX0) (N := 11) hx hb hts in_X0 tyX0 tyX0_ok nmX0 hown hK hP hD hS 0 rfl rfl 4 (by decide) (hts _ q40) (fun _ h9 => h9) rfl hin rfl (by decide +kernel) rfl rfl (Nat.le_of_ble_eq_true rfl) dX0_init_25 (fun H locs hP hD hS => ?_)
  have hP : va_P D vwCl [(h0, .inr (0, [.int 0, .ref q1, .ref q2, .int 0, .ref q3, .null, .null, .null, .null, .null, .null])), (q1, .inl (ca 0, 10, .inl (fun _ => 0))), (q2, .inl (ca 0, 10, .inl (fun _ => 0))), (q3, .inl (ca 1, 10, .inl (fun _ => 0)))] H := hP
  have hD : va_D A [(h0, .inr (0, [.int 0, .ref q1, .ref q2, .int 0, .ref q3, .null, .null, .null, .null, .null, .null])), (q1, .inl (ca 0, 10, .inl (fun _ => 0))), (q2, .inl (ca 0, 10, .inl (fun _ => 0))), (q3, .inl (ca 1, 10, .inl (fun _ => 0)))] := hD
  refine lv_aload_n hx hb dX0_init_28 rfl (lv_at hl 0 rfl) ?_
  refine lv_bipush (v := 10) hx hb dX0_init_29 (by decide) ?_
  refine va_newa (atype := .byte) (ty := .byte) (N' := 10) (a0 := (10, .inl (fun _ => 0))) hx hb (hts _ q71) rfl hK hP hD hS hA (fun _ => rfl) (by decide) (by decide) (by decide) (Nat.le_of_ble_eq_true rfl) (Nat.le_of_ble_eq_true rfl) dX0_init_31 (fun q4 c_ H hK hP hD hS => ?_)
  obtain rfl : c_ = ca 1 := zi_b hK
  have hK : va_K D vwCl (zc_ty ca) s := hK.sub [0, 1] rfl
  have hP : va_P D vwCl [(h0, .inr (0, [.int 0, .ref q1, .ref q2, .int 0, .ref q3, .null, .null, .null, .null, .null, .null])), (q1, .inl (ca 0, 10, .inl (fun _ => 0))), (q2, .inl (ca 0, 10, .inl (fun _ => 0))), (q3, .inl (ca 1, 10, .inl (fun _ => 0))), (q4, .inl (ca 1, 10, .inl (fun _ => 0)))] H := hP
  have hD : va_D A [(h0, .inr (0, [.int 0, .ref q1, .ref q2, .int 0, .ref q3, .null, .null, .null, .null, .null, .null])), (q1, .inl (ca 0, 10, .inl (fun _ => 0))), (q2, .inl (ca 0, 10, .inl (fun _ => 0))), (q3, .inl (ca 1, 10, .inl (fun _ => 0))), (q4, .inl (ca 1, 10, .inl (fun _ => 0)))] := hD
  refine va_putF (D := D) (ci := 0) (v := .ref q4) (ty := .array .byte) (C := RX0) (T := TX0) (N := 11) hx hb hts in_X0 tyX0 tyX0_ok nmX0 hown hK hP hD hS 0 rfl rfl 5 (by decide) (hts _ q41) (fun _ h9 => h9) rfl hin rfl (by decide +kernel) rfl rfl (Nat.le_of_ble_eq_true rfl) dX0_init_33 (fun H locs hP hD hS => ?_)
  have hP : va_P D vwCl [(h0, .inr (0, [.int 0, .ref q1, .ref q2, .int 0, .ref q3, .ref q4, .null, .null, .null, .null, .null])), (q1, .inl (ca 0, 10, .inl (fun _ => 0))), (q2, .inl (ca 0, 10, .inl (fun _ => 0))), (q3, .inl (ca 1, 10, .inl (fun _ => 0))), (q4, .inl (ca 1, 10, .inl (fun _ => 0)))] H := hP
  have hD : va_D A [(h0, .inr (0, [.int 0, .ref q1, .ref q2, .int 0, .ref q3, .ref q4, .null, .null, .null, .null, .null])), (q1, .inl (ca 0, 10, .inl (fun _ => 0))), (q2, .inl (ca 0, 10, .inl (fun _ => 0))), (q3, .inl (ca 1, 10, .inl (fun _ => 0))), (q4, .inl (ca 1, 10, .inl (fun _ => 0)))] := hD
  refine lv_aload_n hx hb dX0_init_36 rfl (lv_at hl 0 rfl) ?_
  refine lv_bipush (v := 10) hx hb dX0_init_37 (by decide) ?_
  refine va_newa (atype := .byte) (ty := .byte) (N' := 10) (a0 := (10, .inl (fun _ => 0))) hx hb (hts _ q71) rfl hK hP hD hS hA (fun _ => rfl) (by decide) (by decide) (by decide) (Nat.le_of_ble_eq_true rfl) (Nat.le_of_ble_eq_true rfl) dX0_init_39 (fun q5 c_ H hK hP hD hS => ?_)
  obtain rfl : c_ = ca 1 := zi_b hK
  have hK : va_K D vwCl (zc_ty ca) s := hK.sub [0, 1] rfl
  have hP : va_P D vwCl [(h0, .inr (0, [.int 0, .ref q1, .ref q2, .int 0, .ref q3, .ref q4, .null, .null, .null, .null, .null])), (q1, .inl (ca 0, 10, .inl (fun _ => 0))), (q2, .inl (ca 0, 10, .inl (fun _ => 0))), (q3, .inl (ca 1, 10, .inl (fun _ => 0))), (q4, .inl (ca 1, 10, .inl (fun _ => 0))), (q5, .inl (ca 1, 10, .inl (fun _ => 0)))] H := hP
  have hD : va_D A [(h0, .inr (0, [.int 0, .ref q1, .ref q2, .int 0, .ref q3, .ref q4, .null, .null, .null, .null, .null])), (q1, .inl (ca 0, 10, .inl (fun _ => 0))), (q2, .inl (ca 0, 10, .inl (fun _ => 0))), (q3, .inl (ca 1, 10, .inl (fun _ => 0))), (q4, .inl (ca 1, 10, .inl (fun _ => 0))), (q5, .inl (ca 1, 10, .inl (fun _ => 0)))] := hD
  refine va_putF (D := D) (ci := 0) (v := .ref q5) (ty := .array .byte) (C := RX0) (T := TX0) (N := 11) hx hb hts in_X0 tyX0 tyX0_ok nmX0 hown hK hP hD hS 0 rfl rfl 6 (by decide) (hts _ q42) (fun _ h9 => h9) rfl hin rfl (by decide +kernel) rfl rfl (Nat.le_of_ble_eq_true rfl) dX0_init_41 (fun H locs hP hD hS => ?_)
  have hP : va_P D vwCl [(h0, .inr (0, [.int 0, .ref q1, .ref q2, .int 0, .ref q3, .ref q4, .ref q5, .null, .null, .null, .null])), (q1, .inl (ca 0, 10, .inl (fun _ => 0))), (q2, .inl (ca 0, 10, .inl (fun _ => 0))), (q3, .inl (ca 1, 10, .inl (fun _ => 0))), (q4, .inl (ca 1, 10, .inl (fun _ => 0))), (q5, .inl (ca 1, 10, .inl (fun _ => 0)))] H := hP
  have hD : va_D A [(h0, .inr (0, [.int 0, .ref q1, .ref q2, .int 0, .ref q3, .ref q4, .ref q5, .null, .null, .null, .null])), (q1, .inl (ca 0, 10, .inl (fun _ => 0))), (q2, .inl (ca 0, 10, .inl (fun _ => 0))), (q3, .inl (ca 1, 10, .inl (fun _ => 0))), (q4, .inl (ca 1, 10, .inl (fun _ => 0))), (q5, .inl (ca 1, 10, .inl (fun _ => 0)))] := hD
  refine lv_aload_n hx hb dX0_init_44 rfl (lv_at hl 0 rfl) ?_
  refine lv_bipush (v := 10) hx hb dX0_init_45 (by decide) ?_
  refine va_newa (atype := .byte) (ty := .byte) (N' := 10) (a0 := (10, .inl (fun _ => 0))) hx hb (hts _ q71) rfl hK hP hD hS hA (fun _ => rfl) (by decide) (by decide) (by decide) (Nat.le_of_ble_eq_true rfl) (Nat.le_of_ble_eq_true rfl) dX0_init_47 (fun q6 c_ H hK hP hD hS => ?_)
  obtain rfl : c_ = ca 1 := zi_b hK
  have hK : va_K D vwCl (zc_ty ca) s := hK.sub [0, 1] rfl
  have hP : va_P D vwCl [(h0, .inr (0, [.int 0, .ref q1, .ref q2, .int 0, .ref q3, .ref q4, .ref q5, .null, .null, .null, .null])), (q1, .inl (ca 0, 10, .inl (fun _ => 0))), (q2, .inl (ca 0, 10, .inl (fun _ => 0))), (q3, .inl (ca 1, 10, .inl (fun _ => 0))), (q4, .inl (ca 1, 10, .inl (fun _ => 0))), (q5, .inl (ca 1, 10, .inl (fun _ => 0))), (q6, .inl (ca 1, 10, .inl (fun _ => 0)))] H := hP
  have hD : va_D A [(h0, .inr (0, [.int 0, .ref q1, .ref q2, .int 0, .ref q3, .ref q4, .ref q5, .null, .null, .null, .null])), (q1, .inl (ca 0, 10, .inl (fun _ => 0))), (q2, .inl (ca 0, 10, .inl (fun _ => 0))), (q3, .inl (ca 1, 10, .inl (fun _ => 0))), (q4, .inl (ca 1, 10, .inl (fun _ => 0))), (q5, .inl (ca 1, 10, .inl (fun _ => 0))), (q6, .inl (ca 1, 10, .inl (fun _ => 0)))] := hD
  refine va_putF (D := D) (ci := 0) (v := .ref q6) (ty := .array .byte) (C := RX0) (T := TX0) (N := 11) hx hb hts in_X0 tyX0 tyX0_ok nmX0 hown hK hP hD hS 0 rfl rfl 7 (by decide) (hts _ q43) (fun _ h9 => h9) rfl hin rfl (by decide +kernel) rfl rfl (Nat.le_of_ble_eq_true rfl) dX0_init_49 (fun H locs hP hD hS => ?_)
  have hP : va_P D vwCl [(h0, .inr (0, [.int 0, .ref q1, .ref q2, .int 0, .ref q3, .ref q4, .ref q5, .ref q6, .null, .null, .null])), (q1, .inl (ca 0, 10, .inl (fun _ => 0))), (q2, .inl (ca 0, 10, .inl (fun _ => 0))), (q3, .inl (ca 1, 10, .inl (fun _ => 0))), (q4, .inl (ca 1, 10, .inl (fun _ => 0))), (q5, .inl (ca 1, 10, .inl (fun _ => 0))), (q6, .inl (ca 1, 10, .inl (fun _ => 0)))] H := hP
  have hD : va_D A [(h0, .inr (0, [.int 0, .ref q1, .ref q2, .int 0, .ref q3, .ref q4, .ref q5, .ref q6, .null, .null, .null])), (q1, .inl (ca 0, 10, .inl (fun _ => 0))), (q2, .inl (ca 0, 10, .inl (fun _ => 0))), (q3, .inl (ca 1, 10, .inl (fun _ => 0))), (q4, .inl (ca 1, 10, .inl (fun _ => 0))), (q5, .inl (ca 1, 10, .inl (fun _ => 0))), (q6, .inl (ca 1, 10, .inl (fun _ => 0)))] := hD
  refine lv_aload_n hx hb dX0_init_52 rfl (lv_at hl 0 rfl) ?_
  refine lv_bipush (v := 10) hx hb dX0_init_53 (by decide) ?_
  refine va_newa (atype := .byte) (ty := .byte) (N' := 10) (a0 := (10, .inl (fun _ => 0))) hx hb (hts _ q71) rfl hK hP hD hS hA (fun _ => rfl) (by decide) (by decide) (by decide) (Nat.le_of_ble_eq_true rfl) (Nat.le_of_ble_eq_true rfl) dX0_init_55 (fun q7 c_ H hK hP hD hS => ?_)
  obtain rfl : c_ = ca 1 := zi_b hK
  have hK : va_K D vwCl (zc_ty ca) s := hK.sub [0, 1] rfl
  have hP : va_P D vwCl [(h0, .inr (0, [.int 0, .ref q1, .ref q2, .int 0, .ref q3, .ref q4, .ref q5, .ref q6, .null, .null, .null])), (q1, .inl (ca 0, 10, .inl (fun _ => 0))), (q2, .inl (ca 0, 10, .inl (fun _ => 0))), (q3, .inl (ca 1, 10, .inl (fun _ => 0))), (q4, .inl (ca 1, 10, .inl (fun _ => 0))), (q5, .inl (ca 1, 10, .inl (fun _ => 0))), (q6, .inl (ca 1, 10, .inl (fun _ => 0))), (q7, .inl (ca 1, 10, .inl (fun _ => 0)))] H := hP
  have hD : va_D A [(h0, .inr (0, [.int 0, .ref q1, .ref q2, .int 0, .ref q3, .ref q4, .ref q5, .ref q6, .null, .null, .null])), (q1, .inl (ca 0, 10, .inl (fun _ => 0))), (q2, .inl (ca 0, 10, .inl (fun _ => 0))), (q3, .inl (ca 1, 10, .inl (fun _ => 0))), (q4, .inl (ca 1, 10, .inl (fun _ => 0))), (q5, .inl (ca 1, 10, .inl (fun _ => 0))), (q6, .inl (ca 1, 10, .inl (fun _ => 0))), (q7, .inl (ca 1, 10, .inl (fun _ => 0)))] := hD
  refine va_putF (D := D) (ci := 0) (v := .ref q7) (ty := .array .byte) (C := RX0) (T := TX0) (N := 11) hx hb hts in_X0 tyX0 tyX0_ok nmX0 hown hK hP hD hS 0 rfl rfl 8 (by decide) (hts _ q44) (fun _ h9 => h9) rfl hin rfl (by decide +kernel) rfl rfl (Nat.le_of_ble_eq_true rfl) dX0_init_57 (fun H locs hP hD hS => ?_)
  have hP : va_P D vwCl [(h0, .inr (0, [.int 0, .ref q1, .ref q2, .int 0, .ref q3, .ref q4, .ref q5, .ref q6, .ref q7, .null, .null])), (q1, .inl (ca 0, 10, .inl (fun _ => 0))), (q2, .inl (ca 0, 10, .inl (fun _ => 0))), (q3, .inl (ca 1, 10, .inl (fun _ => 0))), (q4, .inl (ca 1, 10, .inl (fun _ => 0))), (q5, .inl (ca 1, 10, .inl (fun _ => 0))), (q6, .inl (ca 1, 10, .inl (fun _ => 0))), (q7, .inl (ca 1, 10, .inl (fun _ => 0)))] H := hP
  have hD : va_D A [(h0, .inr (0, [.int 0, .ref q1, .ref q2, .int 0, .ref q3, .ref q4, .ref q5, .ref q6, .ref q7, .null, .null])), (q1, .inl (ca 0, 10, .inl (fun _ => 0))), (q2, .inl (ca 0, 10, .inl (fun _ => 0))), (q3, .inl (ca 1, 10, .inl (fun _ => 0))), (q4, .inl (ca 1, 10, .inl (fun _ => 0))), (q5, .inl (ca 1, 10, .inl (fun _ => 0))), (q6, .inl (ca 1, 10, .inl (fun _ => 0))), (q7, .inl (ca 1, 10, .inl (fun _ => 0)))] := hD
  refine lv_aload_n hx hb dX0_init_60 rfl (lv_at hl 0 rfl) ?_
  refine lv_bipush (v := 10) hx hb dX0_init_61 (by decide) ?_
  refine va_newa (atype := .byte) (ty := .byte) (N' := 10) (a0 := (10, .inl (fun _ => 0))) hx hb (hts _ q71) rfl hK hP hD hS hA (fun _ => rfl) (by decide) (by decide) (by decide) (Nat.le_of_ble_eq_true rfl) (Nat.le_of_ble_eq_true rfl) dX0_init_63 (fun q8 c_ H hK hP hD hS => ?_)
  obtain rfl : c_ = ca 1 := zi_b hK
  have hK : va_K D vwCl (zc_ty ca) s := hK.sub [0, 1] rfl
  have hP : va_P D vwCl [(h0, .inr (0, [.int 0, .ref q1, .ref q2, .int 0, .ref q3, .ref q4, .ref q5, .ref q6, .ref q7, .null, .null])), (q1, .inl (ca 0, 10, .inl (fun _ => 0))), (q2, .inl (ca 0, 10, .inl (fun _ => 0))), (q3, .inl (ca 1, 10, .inl (fun _ => 0))), (q4, .inl (ca 1, 10, .inl (fun _ => 0))), (q5, .inl (ca 1, 10, .inl (fun _ => 0))), (q6, .inl (ca 1, 10, .inl (fun _ => 0))), (q7, .inl (ca 1, 10, .inl (fun _ => 0))), (q8, .inl (ca 1, 10, .inl (fun _ => 0)))] H := hP
  have hD : va_D A [(h0, .inr (0, [.int 0, .ref q1, .ref q2, .int 0, .ref q3, .ref q4, .ref q5, .ref q6, .ref q7, .null, .null])), (q1, .inl (ca 0, 10, .inl (fun _ => 0))), (q2, .inl (ca 0, 10, .inl (fun _ => 0))), (q3, .inl (ca 1, 10, .inl (fun _ => 0))), (q4, .inl (ca 1, 10, .inl (fun _ => 0))), (q5, .inl (ca 1, 10, .inl (fun _ => 0))), (q6, .inl (ca 1, 10, .inl (fun _ => 0))), (q7, .inl (ca 1, 10, .inl (fun _ => 0))), (q8, .inl (ca 1, 10, .inl (fun _ => 0)))] := hD
  refine va_putF (D := D) (ci := 0) (v := .ref q8) (ty := .array .byte) (C := RX0) (T := TX0) (N := 11) hx hb hts in_X0 tyX0 tyX0_ok nmX0 hown hK hP hD hS 0 rfl rfl 9 (by decide) (hts _ q45) (fun _ h9 => h9) rfl hin rfl (by decide +kernel) rfl rfl (Nat.le_of_ble_eq_true rfl) dX0_init_65 (fun H locs hP hD hS => ?_)
  have hP : va_P D vwCl [(h0, .inr (0, [.int 0, .ref q1, .ref q2, .int 0, .ref q3, .ref q4, .ref q5, .ref q6, .ref q7, .ref q8, .null])), (q1, .inl (ca 0, 10, .inl (fun _ => 0))), (q2, .inl (ca 0, 10, .inl (fun _ => 0))), (q3, .inl (ca 1, 10, .inl (fun _ => 0))), (q4, .inl (ca 1, 10, .inl (fun _ => 0))), (q5, .inl (ca 1, 10, .inl (fun _ => 0))), (q6, .inl (ca 1, 10, .inl (fun _ => 0))), (q7, .inl (ca 1, 10, .inl (fun _ => 0))), (q8, .inl (ca 1, 10, .inl (fun _ => 0)))] H := hP
  have hD : va_D A [(h0, .inr (0, [.int 0, .ref q1, .ref q2, .int 0, .ref q3, .ref q4, .ref q5, .ref q6, .ref q7, .ref q8, .null])), (q1, .inl (ca 0, 10, .inl (fun _ => 0))), (q2, .inl (ca 0, 10, .inl (fun _ => 0))), (q3, .inl (ca 1, 10, .inl (fun _ => 0))), (q4, .inl (ca 1, 10, .inl (fun _ => 0))), (q5, .inl (ca 1, 10, .inl (fun _ => 0))), (q6, .inl (ca 1, 10, .inl (fun _ => 0))), (q7, .inl (ca 1, 10, .inl (fun _ => 0))), (q8, .inl (ca 1, 10, .inl (fun _ => 0)))] := hD
  refine lv_aload_n hx hb dX0_init_68 rfl (lv_at hl 0 rfl) ?_
  refine lv_bipush (v := 10) hx hb dX0_init_69 (by decide) ?_
  refine va_newa (atype := .byte) (ty := .byte) (N' := 10) (a0 := (10, .inl (fun _ => 0))) hx hb (hts _ q71) rfl hK hP hD hS hA (fun _ => rfl) (by decide) (by decide) (by decide) (Nat.le_of_ble_eq_true rfl) (Nat.le_of_ble_eq_true rfl) dX0_init_71 (fun q9 c_ H hK hP hD hS => ?_)
  obtain rfl : c_ = ca 1 := zi_b hK
  have hK : va_K D vwCl (zc_ty ca) s := hK.sub [0, 1] rfl
  have hP : va_P D vwCl [(h0, .inr (0, [.int 0, .ref q1, .ref q2, .int 0, .ref q3, .ref q4, .ref q5, .ref q6, .ref q7, .ref q8, .null])), (q1, .inl (ca 0, 10, .inl (fun _ => 0))), (q2, .inl (ca 0, 10, .inl (fun _ => 0))), (q3, .inl (ca 1, 10, .inl (fun _ => 0))), (q4, .inl (ca 1, 10, .inl (fun _ => 0))), (q5, .inl (ca 1, 10, .inl (fun _ => 0))), (q6, .inl (ca 1, 10, .inl (fun _ => 0))), (q7, .inl (ca 1, 10, .inl (fun _ => 0))), (q8, .inl (ca 1, 10, .inl (fun _ => 0))), (q9, .inl (ca 1, 10, .inl (fun _ => 0)))] H := hP
  have hD : va_D A [(h0, .inr (0, [.int 0, .ref q1, .ref q2, .int 0, .ref q3, .ref q4, .ref q5, .ref q6, .ref q7, .ref q8, .null])), (q1, .inl (ca 0, 10, .inl (fun _ => 0))), (q2, .inl (ca 0, 10, .inl (fun _ => 0))), (q3, .inl (ca 1, 10, .inl (fun _ => 0))), (q4, .inl (ca 1, 10, .inl (fun _ => 0))), (q5, .inl (ca 1, 10, .inl (fun _ => 0))), (q6, .inl (ca 1, 10, .inl (fun _ => 0))), (q7, .inl (ca 1, 10, .inl (fun _ => 0))), (q8, .inl (ca 1, 10, .inl (fun _ => 0))), (q9, .inl (ca 1, 10, .inl (fun _ => 0)))] := hD
  refine va_putF (D := D) (ci := 0) (v := .ref q9) (ty := .array .byte) (C := RX0) (T := TX0) (N := 11) hx hb hts in_X0 tyX0 tyX0_ok nmX0 hown hK hP hD hS 0 rfl rfl 10 (by decide) (hts _ q46) (fun _ h9 => h9) rfl hin rfl (by decide +kernel) rfl rfl (Nat.le_of_ble_eq_true rfl) dX0_init_73 (fun H locs hP hD hS => ?_)
  have hP : va_P D vwCl [(h0, .inr (0, [.int 0, .ref q1, .ref q2, .int 0, .ref q3, .ref q4, .ref q5, .ref q6, .ref q7, .ref q8, .ref q9])), (q1, .inl (ca 0, 10, .inl (fun _ => 0))), (q2, .inl (ca 0, 10, .inl (fun _ => 0))), (q3, .inl (ca 1, 10, .inl (fun _ => 0))), (q4, .inl (ca 1, 10, .inl (fun _ => 0))), (q5, .inl (ca 1, 10, .inl (fun _ => 0))), (q6, .inl (ca 1, 10, .inl (fun _ => 0))), (q7, .inl (ca 1, 10, .inl (fun _ => 0))), (q8, .inl (ca 1, 10, .inl (fun _ => 0))), (q9, .inl (ca 1, 10, .inl (fun _ => 0)))] H := hP
  have hD : va_D A [(h0, .inr (0, [.int 0, .ref q1, .ref q2, .int 0, .ref q3, .ref q4, .ref q5, .ref q6, .ref q7, .ref q8, .ref q9])), (q1, .inl (ca 0, 10, .inl (fun _ => 0))), (q2, .inl (ca 0, 10, .inl (fun _ => 0))), (q3, .inl (ca 1, 10, .inl (fun _ => 0))), (q4, .inl (ca 1, 10, .inl (fun _ => 0))), (q5, .inl (ca 1, 10, .inl (fun _ => 0))), (q6, .inl (ca 1, 10, .inl (fun _ => 0))), (q7, .inl (ca 1, 10, .inl (fun _ => 0))), (q8, .inl (ca 1, 10, .inl (fun _ => 0))), (q9, .inl (ca 1, 10, .inl (fun _ => 0)))] := hD
  refine lv_aload_n hx hb dX0_init_76 rfl (lv_at hl 0 rfl) ?_
  refine lv_iconst (v := 1) hx hb dX0_init_77 (by decide) ?_
  refine va_put (D := D) (ci := 0) (v := .int 1) (ty := .boolean) (C := RX0) (T := TX0) (N := 11) hx hb hts in_X0 tyX0 tyX0_ok nmX0 hown hK hP hD hS 0 rfl rfl 3 (by decide) (hts _ q39) (fun _ h9 => h9) rfl (by decide +kernel) rfl rfl (Nat.le_of_ble_eq_true rfl) dX0_init_78 (fun H locs hP hD hS => ?_)
  have hP : va_P D vwCl [(h0, .inr (0, [.int 0, .ref q1, .ref q2, .int 1, .ref q3, .ref q4, .ref q5, .ref q6, .ref q7, .ref q8, .ref q9])), (q1, .inl (ca 0, 10, .inl (fun _ => 0))), (q2, .inl (ca 0, 10, .inl (fun _ => 0))), (q3, .inl (ca 1, 10, .inl (fun _ => 0))), (q4, .inl (ca 1, 10, .inl (fun _ => 0))), (q5, .inl (ca 1, 10, .inl (fun _ => 0))), (q6, .inl (ca 1, 10, .inl (fun _ => 0))), (q7, .inl (ca 1, 10, .inl (fun _ => 0))), (q8, .inl (ca 1, 10, .inl (fun _ => 0))), (q9, .inl (ca 1, 10, .inl (fun _ => 0)))] H := hP
  have hD : va_D A [(h0, .inr (0, [.int 0, .ref q1, .ref q2, .int 1, .ref q3, .ref q4, .ref q5, .ref q6, .ref q7, .ref q8, .ref q9])), (q1, .inl (ca 0, 10, .inl (fun _ => 0))), (q2, .inl (ca 0, 10, .inl (fun _ => 0))), (q3, .inl (ca 1, 10, .inl (fun _ => 0))), (q4, .inl (ca 1, 10, .inl (fun _ => 0))), (q5, .inl (ca 1, 10, .inl (fun _ => 0))), (q6, .inl (ca 1, 10, .inl (fun _ => 0))), (q7, .inl (ca 1, 10, .inl (fun _ => 0))), (q8, .inl (ca 1, 10, .inl (fun _ => 0))), (q9, .inl (ca 1, 10, .inl (fun _ => 0)))] := hD
  refine W.widen (k := 9) (n := 90) (Nat.le_of_ble_eq_true rfl) (Nat.le_of_ble_eq_true rfl) ?_
  exact W.vret hx hb hr (fun t ht hW => ⟨⟨zi_q h0 q1 q2 q3 q4 q5 q6 q7 q8 q9, rfl, trivial, rfl, by rw [ht, zi_XL]; exact hP, va_K.moved hW.alike hK, by rw [zi_XL]; exact hD⟩, hS.F ht⟩) hS.2.2 dX0_init_81
set_option maxHeartbeats 4000000 in
theorem zi_M (l : Launch) (D : va_G) (ca : Nat → ClassId) (h0 sz : Nat) : Met l yX1_init (ws_ yX1_init cX1_init 1 none) ({ frames := 1, cells := 2, slots := 1034, locals := 12 }) (va_Pc [.ref h0] (fun U => U.heap.size = sz ∧ va_P D vwCl [(h0, .inr (1, [.int 0, .null, .null]))] U.heap ∧ va_K D vwCl (zc_ty ca) U ∧ va_D (fun _ => True) [(h0, .inr (1, [.int 0, .null, .null]))])) (va_Qv (fun _ : Nat → Nat => True) (fun q t => q 0 = h0 ∧ va_P D vwCl (zc_ML q ca zi_m0) t.heap ∧ va_K D vwCl (zc_ty ca) t ∧ va_D (va_A [(h0, .inr (1, [.int 0, .null, .null]))] sz) (zc_ML q ca zi_m0)) (va_A [(h0, .inr (1, [.int 0, .null, .null]))] sz)) 2 1034 (va_A [(h0, .inr (1, [.int 0, .null, .null]))] sz) := by
  refine Met.ofW (cc := cX1_init) (maxL := 1) (ret := none) (by decide) rfl ?_
  intro p e s m args below meth c s₁ B hml hv
  obtain ⟨rfl, hsz, hP, hK, hD0⟩ := hv
  have hx := B.exec
  have hb := B.bytes
  have hr := B.returns
  have hts := atoms_spec (ws := ws_ yX1_init cX1_init 1 none) B.pre
  have hts : ∀ w ∈ lw_all, w.before _ s = true := fun w h => hts w (List.mem_cons_of_mem _ h)
  have hown : s.vm.findClass RX1 = some m.cls := findClass_of_methodNamed B.named
  have hlocks := B.notSynchronized
  have hin : meth.name = "<init>" := (name_of_methodNamed B.named B.method).1
  subst hsz
  have hD := hD0.self (sz := s.heap.size)
  generalize hAe : va_A [(h0, .inr (1, [.int 0, .null, .null]))] s.heap.size = A at hD ⊢
  have hA : ∀ q : Nat, s.heap.size ≤ q → A q := fun q h => by rw [← hAe]; exact Or.inr h
  have hS : va_S A s.heap s.heap [] := va_S.rf
  have hl := lv_entry ([.ref h0]) (n := 1) (Nat.le_of_ble_eq_true rfl)
  rw [lg_entry_eq]
  generalize (lg_sl ([.ref h0]) ++ List.replicate (1 - (lg_sl ([.ref h0])).length) Slot.unset).toArray = ls at hl ⊢
  have hl : lv_has ls 1 [(0, .ref h0)] := hl
  refine lv_aload_n hx hb dX1_init_0 rfl (lv_at hl 0 rfl) ?_
  refine W.objInit hx hb hown (hts _ q182) (hts _ q34) (hts _ q35) rfl (by rw [hml]; exact hl.1) rfl dX1_init_1 (Nat.le_of_ble_eq_true rfl) (Nat.le_of_ble_eq_true rfl) ?_
  refine W.eq (g2 := F0 m 4 ls []) rfl ?_
  refine lv_aload_n hx hb dX1_init_4 rfl (lv_at hl 0 rfl) ?_
  refine lv_iconst (v := 0) hx hb dX1_init_5 (by decide) ?_
  refine va_put (D := D) (ci := 1) (v := .int 0) (ty := .int) (C := RX1) (T := TX1) (N := 3) hx hb hts in_X1 tyX1 tyX1_ok nmX1 hown hK hP hD hS 0 rfl rfl 0 (by decide) (hts _ q183) (fun _ h9 => h9) rfl (by decide +kernel) rfl rfl (Nat.le_of_ble_eq_true rfl) dX1_init_6 (fun H locs hP hD hS => ?_)
  have hP : va_P D vwCl [(h0, .inr (1, [.int 0, .null, .null]))] H := hP
  have hD : va_D A [(h0, .inr (1, [.int 0, .null, .null]))] := hD
  refine lv_aload_n hx hb dX1_init_9 rfl (lv_at hl 0 rfl) ?_
  refine lv_bipush (v := 10) hx hb dX1_init_10 (by decide) ?_
  refine va_newa (atype := .int) (ty := .int) (N' := 10) (a0 := (10, .inl (fun _ => 0))) hx hb (hts _ q70) rfl hK hP hD hS hA (fun _ => rfl) (by decide) (by decide) (by decide) (Nat.le_of_ble_eq_true rfl) (Nat.le_of_ble_eq_true rfl) dX1_init_12 (fun q1 c_ H hK hP hD hS => ?_)
  obtain rfl : c_ = ca 0 := zi_i hK
  have hK : va_K D vwCl (zc_ty ca) s := hK.sub [0, 1] rfl
  have hP : va_P D vwCl [(h0, .inr (1, [.int 0, .null, .null])), (q1, .inl (ca 0, 10, .inl (fun _ => 0)))] H := hP
  have hD : va_D A [(h0, .inr (1, [.int 0, .null, .null])), (q1, .inl (ca 0, 10, .inl (fun _ => 0)))] := hD
  refine va_put (D := D) (ci := 1) (v := .ref q1) (ty := .array .int) (C := RX1) (T := TX1) (N := 3) hx hb hts in_X1 tyX1 tyX1_ok nmX1 hown hK hP hD hS 0 rfl rfl 1 (by decide) (hts _ q184) (fun _ h9 => h9) rfl (by decide +kernel) rfl rfl (Nat.le_of_ble_eq_true rfl) dX1_init_14 (fun H locs hP hD hS => ?_)
  have hP : va_P D vwCl [(h0, .inr (1, [.int 0, .ref q1, .null])), (q1, .inl (ca 0, 10, .inl (fun _ => 0)))] H := hP
  have hD : va_D A [(h0, .inr (1, [.int 0, .ref q1, .null])), (q1, .inl (ca 0, 10, .inl (fun _ => 0)))] := hD
  refine lv_aload_n hx hb dX1_init_17 rfl (lv_at hl 0 rfl) ?_
  refine lv_sipush (v := 1024) hx hb dX1_init_18 (by decide) ?_
  refine va_newa (atype := .int) (ty := .int) (N' := 1024) (a0 := (1024, .inl (fun _ => 0))) hx hb (hts _ q70) rfl hK hP hD hS hA (fun _ => rfl) (by decide) (by decide) (by decide) (Nat.le_of_ble_eq_true rfl) (Nat.le_of_ble_eq_true rfl) dX1_init_21 (fun q2 c_ H hK hP hD hS => ?_)
  obtain rfl : c_ = ca 0 := zi_i hK
  have hK : va_K D vwCl (zc_ty ca) s := hK.sub [0, 1] rfl
  have hP : va_P D vwCl [(h0, .inr (1, [.int 0, .ref q1, .null])), (q1, .inl (ca 0, 10, .inl (fun _ => 0))), (q2, .inl (ca 0, 1024, .inl (fun _ => 0)))] H := hP
  have hD : va_D A [(h0, .inr (1, [.int 0, .ref q1, .null])), (q1, .inl (ca 0, 10, .inl (fun _ => 0))), (q2, .inl (ca 0, 1024, .inl (fun _ => 0)))] := hD
  refine va_put (D := D) (ci := 1) (v := .ref q2) (ty := .array .int) (C := RX1) (T := TX1) (N := 3) hx hb hts in_X1 tyX1 tyX1_ok nmX1 hown hK hP hD hS 0 rfl rfl 2 (by decide) (hts _ q185) (fun _ h9 => h9) rfl (by decide +kernel) rfl rfl (Nat.le_of_ble_eq_true rfl) dX1_init_23 (fun H locs hP hD hS => ?_)
  have hP : va_P D vwCl [(h0, .inr (1, [.int 0, .ref q1, .ref q2])), (q1, .inl (ca 0, 10, .inl (fun _ => 0))), (q2, .inl (ca 0, 1024, .inl (fun _ => 0)))] H := hP
  have hD : va_D A [(h0, .inr (1, [.int 0, .ref q1, .ref q2])), (q1, .inl (ca 0, 10, .inl (fun _ => 0))), (q2, .inl (ca 0, 1024, .inl (fun _ => 0)))] := hD
  refine W.widen (k := 2) (n := 1034) (Nat.le_of_ble_eq_true rfl) (Nat.le_of_ble_eq_true rfl) ?_
  exact W.vret hx hb hr (fun t ht hW => ⟨⟨zi_q h0 q1 q2 0 0 0 0 0 0 0, rfl, trivial, rfl, by rw [ht]; exact hP, va_K.moved hW.alike hK, hD⟩, hS.F ht⟩) hS.2.2 dX1_init_26
end
section
/-! THE TWO OBJECTS SIDE BY SIDE: zw_I x y: the class's state x and the reference's state y hold the same elements; each pair of answers agrees, and zw_I holds again -/
def zw_I (x y : zS) : Prop := zx_I x ∧ y 0 0 = x 0 0 ∧ y 1 = x 1
theorem zw_I.ok {x y : zS} (h : zw_I x y) : zm_ok y := by
  obtain ⟨⟨hg, -⟩, h0, h1⟩ := h
  have := hg.ok
  refine ⟨by rw [h0]; exact this.1, fun j hj => ?_⟩
  rw [h1]
  exact (this.2 j (by rw [← h0]; exact hj)).1
theorem zw_I.n {x y : zS} (h : zw_I x y) : x 0 0 ≤ 10 := h.1.1.1
theorem zw_I.nM {x y : zS} (h : zw_I x y) : y 0 0 ≤ 10 := by rw [h.2.1]; exact h.n
theorem zw_of {x x' y y' : zS} (h : zw_I x y) (h1 : zx_eq x x') (h2 : zx_I x') (h3 : y' 0 0 = y 0 0) (h4 : y' 1 = y 1) : zw_I x' y' := ⟨h2, by rw [h3, h.2.1, h1.1], by rw [h4, h.2.2, h1.2.1]⟩
theorem zw_lt {a n : Nat} (hn : n ≤ 10) (h : a < 2 ^ n) : a < 2 ^ 31 := zb_lt31 h (by omega)
theorem zw_ar0 (s : zS) (k : Nat) (f : Nat → Nat) (h : 0 ≠ k) : zc_ar s k f 0 = s 0 := if_neg h
theorem zw_arN {s : zS} {j k : Nat} {f : Nat → Nat} (h : j ≠ k) : zc_ar s k f j = s j := if_neg h
theorem zw_arS (s : zS) (k : Nat) (f : Nat → Nat) : zc_ar s k f k = f := if_pos rfl
/-- what the two answers owe each other -/
def zw_J (v : Option Value) (x' : zS) (w : Option Value) (y' : zS) : Prop := ∃ r : Int32, v = some (.int r) ∧ w = some (.int r) ∧ zw_I x' y'
theorem zw_add {x y x' y' : zS} {z : Int32} {v w : Option Value} (h : zw_I x y) (hx : (x 0 0 = 10 ∧ v = some (.int (-2)) ∧ x = x') ∨ (x 0 0 < 10 ∧ ¬ zp_is (x 0 0) z ∧ v = some (.int (-1)) ∧ x = x') ∨ (x 0 0 < 10 ∧ ∃ a, a < 2 ^ x 0 0 ∧ z = nI a ∧ v = some (.int (nI (x 0 0 + 1))) ∧ x' 0 0 = x 0 0 + 1 ∧ x' 1 = zc_up (x 1) (x 0 0) (zp_all (x 1) a (x 0 0)) ∧ zx_I x'))
    (hy : (y 0 0 = 10 ∧ w = some (.int (-2)) ∧ y = y') ∨ (y 0 0 < 10 ∧ ¬ zp_is (y 0 0) z ∧ w = some (.int (-1)) ∧ y = y') ∨ (y 0 0 < 10 ∧ ∃ a, a < 2 ^ y 0 0 ∧ z = nI a ∧ w = some (.int (nI (y 0 0 + 1))) ∧ y' = zc_st (zc_st y 1 (y 0 0) (zp_all (y 1) a (y 0 0))) 0 0 (y 0 0 + 1))) : zw_J v x' w y' := by
  have hn := h.n
  have e0 := h.2.1
  have e1 := h.2.2
  rw [e0, e1] at hy
  rcases hx with ⟨a1, a2, a3⟩ | ⟨a1, a2, a3, a4⟩ | ⟨a1, a, a2, a3, a4, a5, a6, a7⟩
  · rcases hy with ⟨b1, b2, b3⟩ | ⟨b1, b2, b3, b4⟩ | ⟨b1, b, b2, b3, b4, b5⟩
    · exact ⟨_, a2, b2, by rw [← a3, ← b3]; exact h⟩
    · omega
    · omega
  · rcases hy with ⟨b1, b2, b3⟩ | ⟨b1, b2, b3, b4⟩ | ⟨b1, b, b2, b3, b4, b5⟩
    · omega
    · exact ⟨_, a3, b3, by rw [← a4, ← b4]; exact h⟩
    · exact absurd ⟨b, b2, b3⟩ a2
  · rcases hy with ⟨b1, b2, b3⟩ | ⟨b1, b2, b3, b4⟩ | ⟨b1, b, b2, b3, b4, b5⟩
    · omega
    · exact absurd ⟨a, a2, a3⟩ b2
    · have e : a = b := (nI_eq (zw_lt hn a2) (zw_lt hn b2)).mp (a3.symm.trans b3)
      subst e
      refine ⟨_, a4, b4, a7, ?_, ?_⟩
      · rw [b5, a5]
        simp [zc_st]
      · rw [b5, a6]
        funext j
        simp only [zc_st, zc_up, e1]
        simp
theorem zw_Po_le {n k : Nat} {un : Nat → Nat} (h : zp_Po n un) (hk : k ≤ n) : zp_Po k un := ⟨fun v hv => h.1 v (by omega), fun v hv => h.2 v (by omega)⟩
theorem zw_Ov_less {n : Nat} {un ov ov' : Nat → Nat} (hO : zp_Ov (n + 1) un ov) (h : ∀ j, j < n → ov' j = zb_dif (ov j) (2 ^ n)) : zp_Ov n un ov' := by
  intro u hu
  obtain ⟨h1, h2⟩ := hO u (by omega)
  rw [h u hu]
  refine ⟨zb_lt_of (fun i hi => ?_), fun v hv => ?_⟩
  · rw [zb_dif_bit] at hi
    simp only [Bool.and_eq_true, Bool.not_eq_true', Nat.testBit_two_pow] at hi
    have := zb_bit_lt h1 hi.1
    have := of_decide_eq_false hi.2
    omega
  · rw [zb_dif_bit, ← h2 v (by omega), Nat.testBit_two_pow_of_ne (by omega : n ≠ v)]
    simp
theorem zw_rem {x y x' y' : zS} {v w : Option Value} (h : zw_I x y) (hx : (x 0 0 = 0 ∧ v = some (.int (-1)) ∧ x = x') ∨ (0 < x 0 0 ∧ v = some (.int (nI (x 0 0 - 1))) ∧ ∃ f, x' = zc_st (zc_ar (zc_st x 0 0 (x 0 0 - 1)) 2 f) 0 1 0 ∧ ∀ j, j < x 0 0 - 1 → f j = zb_dif (x 2 j) (2 ^ (x 0 0 - 1))))
    (hy : (y 0 0 = 0 ∧ w = some (.int (-1)) ∧ y = y') ∨ (0 < y 0 0 ∧ w = some (.int (nI (y 0 0 - 1))) ∧ y' = zc_st y 0 0 (y 0 0 - 1))) : zw_J v x' w y' := by
  have hn := h.n
  have e0 := h.2.1
  have e1 := h.2.2
  rw [e0] at hy
  rcases hx with ⟨a1, a2, a3⟩ | ⟨a1, a2, f, a3, a4⟩
  · rcases hy with ⟨b1, b2, b3⟩ | ⟨b1, b2, b3⟩
    · exact ⟨_, a2, b2, by rw [← a3, ← b3]; exact h⟩
    · omega
  · rcases hy with ⟨b1, b2, b3⟩ | ⟨b1, b2, b3⟩
    · omega
    · have g0 : x' 0 0 = x 0 0 - 1 := by rw [a3]; simp [zc_st, zc_ar]
      have g1 : x' 0 1 = 0 := by rw [a3]; simp [zc_st, zc_ar]
      have g2 : x' 1 = x 1 := by rw [a3]; funext j; simp [zc_st, zc_ar]
      have g3 : x' 2 = f := by rw [a3]; funext j; simp [zc_st, zc_ar]
      refine ⟨_, a2, b2, ⟨⟨by rw [g0]; omega, ?_, ?_⟩, Or.inl g1, fun z => by rw [g1] at z; exact absurd z (by decide)⟩, ?_, ?_⟩
      · rw [g0, g2]
        exact zw_Po_le h.1.1.2.1 (by omega)
      · rw [g0, g2, g3]
        refine zw_Ov_less (ov := x 2) ?_ a4
        rw [show x 0 0 - 1 + 1 = x 0 0 by omega]
        exact h.1.1.2.2
      · rw [b3, g0]; simp [zc_st]
      · rw [b3, g2, ← e1]; funext j; simp [zc_st]
theorem zw_turn {x y x' y' : zS} {v w : Option Value} (h : zw_I x y) (hx : ∃ f g, x' = zc_st (zc_ar (zc_ar x 1 f) 2 g) 0 1 0 ∧ v = some (.int (nI (x 0 0))) ∧ (∀ j, j < x 0 0 → f j = zp_rev (x 0 0) (x 2 (x 0 0 - 1 - j)) ∧ g j = zp_rev (x 0 0) (x 1 (x 0 0 - 1 - j))) ∧ ∀ j, x 0 0 ≤ j → f j = x 1 j)
    (hy : ∃ f g, y' = zc_ar (zc_ar y 2 f) 1 g ∧ w = some (.int (nI (y 0 0))) ∧ (∀ j, j < y 0 0 → g j = zp_tr (y 0 0) (y 1) j) ∧ ∀ j, y 0 0 ≤ j → g j = y 1 j) : zw_J v x' w y' := by
  have hn := h.n
  have e0 := h.2.1
  have e1 := h.2.2
  rw [e0, e1] at hy
  obtain ⟨f, g, a1, a2, a3, a4⟩ := hx
  obtain ⟨f', g', b1, b2, b3, b4⟩ := hy
  have hP := h.1.1.2.1
  have hO := h.1.1.2.2
  have g0 : x' 0 0 = x 0 0 := by rw [a1]; simp [zc_st, zc_ar]
  have g1 : x' 0 1 = 0 := by rw [a1]; simp [zc_st, zc_ar]
  have g2 : x' 1 = f := by rw [a1]; funext j; simp [zc_st, zc_ar]
  have g3 : x' 2 = g := by rw [a1]; funext j; simp [zc_st, zc_ar]
  generalize x 0 0 = n at *
  -- a bit of the turned sets
  have kf : ∀ j, j < n → ∀ i, (f j).testBit i = true ↔ i < n ∧ (x 1 (n - 1 - i)).testBit (n - 1 - j) = true := by
    intro j hj i
    rw [(a3 j hj).1, zp_rev_bit]
    constructor
    · rintro ⟨h1, h2⟩
      exact ⟨h1, ((hO (n - 1 - j) (by omega)).2 (n - 1 - i) (by omega)).mp h2⟩
    · rintro ⟨h1, h2⟩
      exact ⟨h1, ((hO (n - 1 - j) (by omega)).2 (n - 1 - i) (by omega)).mpr h2⟩
  have kg : ∀ j, j < n → ∀ i, (g j).testBit i = true ↔ i < n ∧ (x 1 (n - 1 - j)).testBit (n - 1 - i) = true := by
    intro j hj i
    rw [(a3 j hj).2, zp_rev_bit]
  have klt : ∀ j, j < n → ∀ i, (f j).testBit i = true → i < j := by
    intro j hj i hi
    obtain ⟨h1, h2⟩ := (kf j hj i).mp hi
    have := hP.lt (by omega) h2
    omega
  refine ⟨_, a2, b2, ⟨⟨by rw [g0]; exact hn, ?_, ?_⟩, Or.inl g1, fun z => by rw [g1] at z; exact absurd z (by decide)⟩, ?_, ?_⟩
  · rw [g0, g2]
    refine ⟨fun j hj => zb_lt_of (klt j hj), fun j hj u hu t ht => ?_⟩
    have hun := klt j hj u hu
    obtain ⟨h1, h2⟩ := (kf j hj u).mp hu
    obtain ⟨h3, h4⟩ := (kf u (by omega) t).mp ht
    exact (kf j hj t).mpr ⟨h3, hP.2 _ (by omega) _ h4 _ h2⟩
  · rw [g0, g2, g3]
    intro u hu
    refine ⟨zb_lt_of (fun i hi => ((kg u hu i).mp hi).1), fun z hz => ?_⟩
    rw [kg u hu z, kf z hz u]
    exact ⟨fun q => ⟨hu, q.2⟩, fun q => ⟨hz, q.2⟩⟩
  · rw [b1, g0, ← e0]; simp [zc_ar]
  · rw [b1, g2, zw_arS]
    funext j
    by_cases hj : j < n
    · rw [b3 j hj]
      apply Nat.eq_of_testBit_eq
      intro i
      apply Bool.eq_iff_iff.mpr
      rw [zp_tr_bit, kf j hj i]
    · rw [b4 j (by omega), a4 j (by omega)]
theorem zw_size {x y x' y' : zS} {v w : Option Value} (h : zw_I x y) (hx : v = some (.int (nI (x 0 0))) ∧ x = x') (hy : w = some (.int (nI (y 0 0))) ∧ y = y') : zw_J v x' w y' := ⟨_, hx.1, by rw [hy.1, h.2.1], by rw [← hx.2, ← hy.2]; exact h⟩
theorem zw_below {x y x' y' : zS} {a b : Int32} {v w : Option Value} (h : zw_I x y) (hx : v = some (.int (pB (zp_bel (x 0 0) (x 1) a b))) ∧ x = x') (hy : w = some (.int (pB (zp_bel (y 0 0) (y 1) a b))) ∧ y = y') : zw_J v x' w y' := ⟨_, hx.1, by rw [hy.1, h.2.1, h.2.2], by rw [← hx.2, ← hy.2]; exact h⟩
theorem zw_width {x y x' y' : zS} {z : Int32} {v w : Option Value} (h : zw_I x y) (hx : zx_eq x x' ∧ zx_I x' ∧ ((¬ zp_is (x 0 0) z ∧ v = some (.int (-1))) ∨ ∃ a k, a < 2 ^ x 0 0 ∧ z = nI a ∧ k ≤ 10 ∧ zp_Mx (x 0 0) (x 1) a False k ∧ v = some (.int (nI k))))
    (hy : (¬ zp_is (y 0 0) z ∧ w = some (.int (-1)) ∧ y = y') ∨ (∃ a k, a < 2 ^ y 0 0 ∧ z = nI a ∧ zp_Mx (y 0 0) (y 1) a False k ∧ w = some (.int (nI k)) ∧ y = y')) : zw_J v x' w y' := by
  have hn := h.n
  have e0 := h.2.1
  have e1 := h.2.2
  rw [e0, e1] at hy
  obtain ⟨c1, c2, hx⟩ := hx
  rcases hx with ⟨a1, a2⟩ | ⟨a, k, a1, a2, a3, a4, a5⟩
  · rcases hy with ⟨b1, b2, b3⟩ | ⟨b, j, b1, b2, b3, b4, b5⟩
    · exact ⟨_, a2, b2, zw_of h c1 c2 (by rw [b3]) (by rw [b3])⟩
    · exact absurd ⟨b, b1, b2⟩ a1
  · rcases hy with ⟨b1, b2, b3⟩ | ⟨b, j, b1, b2, b3, b4, b5⟩
    · exact absurd ⟨a, a1, a2⟩ b1
    · have e : a = b := (nI_eq (zw_lt hn a1) (zw_lt hn b1)).mp (a2.symm.trans b2)
      subst e
      exact ⟨_, a5, by rw [b4, zp_Mx_uniq b3 a4], zw_of h c1 c2 (by rw [b5]) (by rw [b5])⟩
theorem zw_chains {x y x' y' : zS} {z : Int32} {v w : Option Value} (h : zw_I x y) (hx : zx_eq x x' ∧ zx_I x' ∧ ((¬ zp_is (x 0 0) z ∧ v = some (.int (-1))) ∨ ∃ a k, a < 2 ^ x 0 0 ∧ z = nI a ∧ k ≤ 10 ∧ zp_Mx (x 0 0) (x 1) a False k ∧ zp_Cov (x 0 0) (x 1) k a ∧ v = some (.int (nI k))))
    (hy : ∃ f, y' = zc_ar y 2 f ∧ ((¬ zp_is (y 0 0) z ∧ w = some (.int (-1))) ∨ (∃ a k, a < 2 ^ y 0 0 ∧ z = nI a ∧ k ≤ 100 ∧ (k = 100 ∨ zp_Cov (y 0 0) (y 1) k a) ∧ (∀ j, zp_Cov (y 0 0) (y 1) j a → k ≤ j) ∧ w = some (.int (nI k))))) : zw_J v x' w y' := by
  have hn := h.n
  have e0 := h.2.1
  have e1 := h.2.2
  rw [e0, e1] at hy
  obtain ⟨c1, c2, hx⟩ := hx
  obtain ⟨f, d1, hy⟩ := hy
  have hI : zw_I x' y' := zw_of h c1 c2 (by rw [d1, zw_arN (by decide)]) (by rw [d1, zw_arN (by decide)])
  rcases hx with ⟨a1, a2⟩ | ⟨a, k, a1, a2, a3, a4, a5, a6⟩
  · rcases hy with ⟨b1, b2⟩ | ⟨b, j, b1, b2, b3, b4, b5, b6⟩
    · exact ⟨_, a2, b2, hI⟩
    · exact absurd ⟨b, b1, b2⟩ a1
  · rcases hy with ⟨b1, b2⟩ | ⟨b, j, b1, b2, b3, b4, b5, b6⟩
    · exact absurd ⟨a, a1, a2⟩ b1
    · have e : a = b := (nI_eq (zw_lt hn a1) (zw_lt hn b1)).mp (a2.symm.trans b2)
      subst e
      have hjk := b5 k a5
      have hkj : k ≤ j := by
        obtain ⟨p, p1, p2, p3⟩ := a4.1
        rw [← p3]
        refine zp_anti_cov j a p (b4.resolve_left (by omega)) a1 p1 p2
      exact ⟨_, a6, by rw [b6, Nat.le_antisymm hjk hkj], hI⟩
theorem zw_longest {x y x' y' : zS} {z : Int32} {v w : Option Value} (h : zw_I x y) (hx : ∃ f, x' = zc_ar x 9 f ∧ ((¬ zp_is (x 0 0) z ∧ v = some (.int (-1))) ∨ (∃ a k, a < 2 ^ x 0 0 ∧ z = nI a ∧ zp_Mx (x 0 0) (x 1) a True k ∧ v = some (.int (nI k)))))
    (hy : (¬ zp_is (y 0 0) z ∧ w = some (.int (-1)) ∧ y = y') ∨ (∃ a k, a < 2 ^ y 0 0 ∧ z = nI a ∧ zp_Mx (y 0 0) (y 1) a True k ∧ w = some (.int (nI k)) ∧ y = y')) : zw_J v x' w y' := by
  have hn := h.n
  have e0 := h.2.1
  have e1 := h.2.2
  rw [e0, e1] at hy
  obtain ⟨f, c1, hx⟩ := hx
  have k0 : x' 0 = x 0 := by rw [c1, zw_arN (by decide)]
  have k1 : x' 1 = x 1 := by rw [c1, zw_arN (by decide)]
  have k2 : x' 2 = x 2 := by rw [c1, zw_arN (by decide)]
  have k3 : x' 3 = x 3 := by rw [c1, zw_arN (by decide)]
  have k4 : x' 4 = x 4 := by rw [c1, zw_arN (by decide)]
  have hI : zw_I x' y := by
    refine ⟨?_, by rw [k0]; exact e0, by rw [k1]; exact e1⟩
    unfold zx_I zx_G
    rw [k0, k1, k2, k3, k4]
    exact h.1
  rcases hx with ⟨a1, a2⟩ | ⟨a, k, a1, a2, a4, a5⟩
  · rcases hy with ⟨b1, b2, b3⟩ | ⟨b, j, b1, b2, b3, b4, b5⟩
    · exact ⟨_, a2, b2, by rw [← b3]; exact hI⟩
    · exact absurd ⟨b, b1, b2⟩ a1
  · rcases hy with ⟨b1, b2, b3⟩ | ⟨b, j, b1, b2, b3, b4, b5⟩
    · exact absurd ⟨a, a1, a2⟩ b1
    · have e : a = b := (nI_eq (zw_lt hn a1) (zw_lt hn b1)).mp (a2.symm.trans b2)
      subst e
      exact ⟨_, a5, by rw [b4, zp_Mx_uniq b3 a4], by rw [← b5]; exact hI⟩
theorem zw_ext {x y x' y' : zS} {lw : Prop} {v w : Option Value} (h : zw_I x y) (hx : ∃ a, zx_eq x x' ∧ zx_I x' ∧ a < 1024 ∧ zp_Ex (x 0 0) (x 1) lw a ∧ v = some (.int (nI a)))
    (hy : ∃ f a, y' = zc_ar y 2 f ∧ w = some (.int (nI a)) ∧ a < 1024 ∧ (zp_Ex (y 0 0) (y 1) lw a ∨ ∀ b, ¬ zp_Ex (y 0 0) (y 1) lw b)) : zw_J v x' w y' := by
  have e0 := h.2.1
  have e1 := h.2.2
  rw [e0, e1] at hy
  obtain ⟨a, a1, a2, a3, a4, a5⟩ := hx
  obtain ⟨f, b, b1, b2, b3, b4⟩ := hy
  refine ⟨_, a5, ?_, zw_of h a1 a2 (by rw [b1, zw_arN (by decide)]) (by rw [b1, zw_arN (by decide)])⟩
  rcases b4 with b4 | b4
  · rw [b2, zp_Ex_uniq h.1.1.2.1 b4 a4]
  · exact absurd a4 (b4 a)
theorem zw_isL {x y x' y' : zS} {z : Int32} {v w : Option Value} (h : zw_I x y) (hx : zx_eq x x' ∧ zx_I x' ∧ v = some (.int (pB (∃ a, z = nI a ∧ zp_La (x 0 0) (x 1) a))))
    (hy : w = some (.int (pB (∃ a, z = nI a ∧ zp_La (y 0 0) (y 1) a))) ∧ y = y') : zw_J v x' w y' := by
  rw [h.2.1, h.2.2] at hy
  exact ⟨_, hx.2.2, hy.1, zw_of h hx.1 hx.2.1 (by rw [hy.2]) (by rw [hy.2])⟩
theorem zw_inL {x y x' y' : zS} {z : Int32} {v w : Option Value} (h : zw_I x y) (hx : zx_eq x x' ∧ zx_I x' ∧ v = some (.int (pB (∃ u a, u < x 0 0 ∧ z = nI u ∧ zp_La (x 0 0) (x 1) a ∧ a.testBit u = true))))
    (hy : ∃ f, y' = zc_ar y 2 f ∧ w = some (.int (pB (∃ u a, u < y 0 0 ∧ z = nI u ∧ zp_La (y 0 0) (y 1) a ∧ a.testBit u = true)))) : zw_J v x' w y' := by
  rw [h.2.1, h.2.2] at hy
  obtain ⟨f, b1, b2⟩ := hy
  exact ⟨_, hx.2.2, b2, zw_of h hx.1 hx.2.1 (by rw [b1, zw_arN (by decide)]) (by rw [b1, zw_arN (by decide)])⟩
/-- the start -/
theorem zw_0 : zw_I zi_s0 zi_m0 := by
  have hn : zi_s0 0 0 = 0 := rfl
  refine ⟨⟨⟨by rw [hn]; decide, ?_, ?_⟩, Or.inr rfl, fun _ => ⟨?_, ?_⟩⟩, rfl, rfl⟩
  · rw [hn]
    exact ⟨fun v hv => absurd hv (Nat.not_lt_zero _), fun v hv => absurd hv (Nat.not_lt_zero _)⟩
  · rw [hn]
    exact fun v hv => absurd hv (Nat.not_lt_zero _)
  · rw [hn]
    exact ⟨fun v hv => absurd hv (Nat.not_lt_zero _), fun v hv => absurd hv (Nat.not_lt_zero _)⟩
  · rw [hn]
    exact ⟨0, zp_sub_0 _, zp_uni_0 _ _ _, Nat.zero_le _⟩
end
section
set_option maxRecDepth 100000
/-! THE CLAIM OUT OF ONE WALK OF THE LAW'S BODY. Your part is whole_start (and what it stands on); all else here is the same for every law, but numbers. -/
def R_law : String := "ChainCoverLaw"
def lw_P (b : Addr) (xs : List Int32) (args : Array Value) (s : State) : Prop := args = #[.ref b] ∧ s.IntsAt b xs ∧ xs.length ≤ 192 ∧ (Jvm.Cond.and given_1 narrow_1).before args s = true
def lw_Q (_ : Array Value) (s : State) (o : Outcome) (t : State) : Prop := o = .returned (some (.int 1)) ∧ Framed s o t [] 600000 7290000
def lw_Z (below : List Frame) (a : Array Value) (s : State) : State → Prop := fun t => ∃ o, t.status = .running ∧ Ended t below o ∧ lw_Q a s o t
/-- the law's own end, with 1 on the stack, nothing written that was there before, its room as the claim has it -/
theorem lw_ret {p : Program} {l : Launch} {e : Env} {s : State} {m : MethodId} {below : List Frame} {meth : Method} {c : Code} {b : Nat} (hx : p.tables.exec = Jvm.exec) (hb : c.code = code) (hr : meth.sig.returnType = ret) (hlocks : meth.locks = false) {pc : Nat} {H : Heap} {ls : Array Slot} (hdg : decode code pc = .ok (.ireturn, 1)) : W p l e room_1 s m #[Value.ref b] below meth c H [] 600000 7290000 (lw_Z below #[Value.ref b] s) (F0 m pc ls [.int 1]) := by
  intro T hT X
  obtain ⟨fs, hret, hrun, hended, hW, hframe⟩ := X.leave (v := some (.int 1)) (hlocks := hlocks) (fun h => by rw [hr] at h; cases h)
  have hmeth' : T.vm.method? m = some meth := X.method'
  refine ⟨T.setFrames fs, ?_, .returned (some (.int 1)), hrun, hended, rfl, ⟨_, rfl⟩, hW, hframe⟩
  jvm_step X.here [X.here.top, hx, hb, hdg, hmeth', hr, ret, narrow_b1]
  (try refine ⟨rfl, ?_⟩); (try refine ⟨rfl, ?_⟩)
  first | (intro acts; rw [hret _ acts rfl rfl rfl]) | rw [hret _ _ rfl rfl rfl]
  exact Steps.refl _
/-- what holds at the law's entry: the machine, the code, the tables' words (any of lw_tbl by 'hts w (by decide +kernel)'), the script of L ints xs at the cell b, what the Statement gives of the start (any of its parts by flat_of_before) -/
def lw_At (p : Program) (s : State) (m : MethodId) (meth : Method) (c : Code) (b L : Nat) (xs : Nat → Int32) : Prop :=
  p.tables.exec = Jvm.exec ∧ c.code = code ∧ meth.sig.returnType = ret ∧ c.maxLocals = 4 ∧ s.vm.findClass R_law = some m.cls ∧ (∀ w ∈ lw_tbl, w.before #[Value.ref b] s = true) ∧ va_X b L xs s s.heap ∧ b < s.heap.size ∧ meth.locks = false ∧ (Jvm.Cond.and given_1 narrow_1).before #[Value.ref b] s = true
/-! THE LAW'S WALK: zw_G: at the states x (the class) and y (the reference), pc, locals, stack the law comes to its end with true -/
def zw_L (q r : Nat → Nat) (ca : Nat → ClassId) (x y : zS) : va_W := zc_XL q ca x ++ zc_ML r ca y
def zw_G (p : Program) (l : Launch) (e : Env) (s : State) (m : MethodId) (below : List Frame) (meth : Method) (c : Code) (b : Nat) (D : va_G) (q r : Nat → Nat) (ca : Nat → ClassId) (x y : zS) (pc : Nat) (lv : List (Nat × Value)) (st : List Value) : Prop :=
  ∀ (H : Heap) (locs : List Loc) (ls : Array Slot), va_P D vwCl (zw_L q r ca x y) H → va_D (fun z : Nat => s.heap.size ≤ z) (zw_L q r ca x y) → va_S (fun z : Nat => s.heap.size ≤ z) s.heap H locs → lv_has ls 4 lv → W p l e room_1 s m #[Value.ref b] below meth c H locs 13 1138 (lw_Z below #[Value.ref b] s) (F0 m pc ls st)
def zw_R (l : Launch) (b L : Nat) (xs : Nat → Int32) (q r : Nat → Nat) (ca : Nat → ClassId) (G : zS → zS → Nat → List (Nat × Value) → List Value → Prop) : Prop :=
  ∃ (p : Program) (e : Env) (s : State) (m : MethodId) (below : List Frame) (meth : Method) (c : Code) (D : va_G), G = zw_G p l e s m below meth c b D q r ca ∧ lw_At p s m meth c b L xs ∧ va_K D vwCl (zc_ty ca) s
def zw_lv (b : Nat) (q r : Nat → Nat) (i : Nat) : List (Nat × Value) := [(0, .ref b), (1, .ref (q 0)), (2, .ref (r 0)), (3, .int (nI i))]
theorem zw_and15 (x : Int32) : ∃ j, j < 16 ∧ x &&& nI 15 = nI j := by
  refine ⟨(x.toBitVec &&& 15#32).toNat, ?_, ?_⟩
  · rw [BitVec.toNat_and]
    exact Nat.lt_of_le_of_lt Nat.and_le_right (by decide)
  · apply Int32.toBitVec_inj.1
    show x.toBitVec &&& 15#32 = BitVec.ofNat 32 (x.toBitVec &&& 15#32).toNat
    rw [BitVec.ofNat_toNat, BitVec.setWidth_eq]
theorem zw_gt {L i : Nat} (hL : L ≤ 192) (hi : i ≤ 1000) : nI L - nI 3 < nI i ↔ L < i + 3 := by
  have h1 : (nI L - nI 3).toInt = (L : Int) - 3 := pk_sub_toInt (by omega) (by decide)
  have h2 : (nI i - nI 0).toInt = (i : Int) - 0 := pk_sub_toInt (by omega) (by decide)
  rw [pk_sub (Nat.zero_le i), Nat.sub_zero] at h2
  rw [Int32.lt_iff_toInt_lt, h1, h2]
  omega
section
variable {l : Launch} {b L : Nat} {xs : Nat → Int32} {q r : Nat → Nat} {ca : Nat → ClassId} {G : zS → zS → Nat → List (Nat × Value) → List Value → Prop} {x y : zS} {pc : Nat} {lv : List (Nat × Value)} {st : List Value}
theorem w_aload_n (hG : zw_R l b L xs q r ca G) {i : Fin 4} {j : Nat} {z : Nat} (d : decode code pc = .ok (.aload_n i, 1)) (hj : (i : Nat) = j) (k : Nat) (hk : lv[k]? = some (j, .ref z)) (kk : G x y (pc + 1) lv (.ref z :: st)) : G x y pc lv (st) := by
  obtain ⟨p, e, s, m, below, meth, c, D, rfl, ⟨hx, hb, hr, hml, hown, hts, hX, hbl, hlocks, hgv⟩, hK⟩ := hG
  have hbA : ¬ (fun z : Nat => s.heap.size ≤ z) b := Nat.not_le.mpr hbl
  intro H locs ls hP hD hS hl
  exact lv_aload_n hx hb d hj (lv_at hl k hk) (kk H locs ls hP hD hS hl)
theorem w_iload_n (hG : zw_R l b L xs q r ca G) {i : Fin 4} {j : Nat} {z : Int32} (d : decode code pc = .ok (.iload_n i, 1)) (hj : (i : Nat) = j) (k : Nat) (hk : lv[k]? = some (j, .int z)) (kk : G x y (pc + 1) lv (.int z :: st)) : G x y pc lv (st) := by
  obtain ⟨p, e, s, m, below, meth, c, D, rfl, ⟨hx, hb, hr, hml, hown, hts, hX, hbl, hlocks, hgv⟩, hK⟩ := hG
  have hbA : ¬ (fun z : Nat => s.heap.size ≤ z) b := Nat.not_le.mpr hbl
  intro H locs ls hP hD hS hl
  exact lv_iload_n hx hb d hj (lv_at hl k hk) (kk H locs ls hP hD hS hl)
theorem w_iconst (hG : zw_R l b L xs q r ca G) {n : Int} {v : Int32} (d : decode code pc = .ok (.iconst n, 1)) (hv : Int32.ofInt n = v) (k : G x y (pc + 1) lv (.int v :: st)) : G x y pc lv (st) := by
  obtain ⟨p, e, s, m, below, meth, c, D, rfl, ⟨hx, hb, hr, hml, hown, hts, hX, hbl, hlocks, hgv⟩, hK⟩ := hG
  have hbA : ¬ (fun z : Nat => s.heap.size ≤ z) b := Nat.not_le.mpr hbl
  intro H locs ls hP hD hS hl
  exact lv_iconst hx hb d hv (k H locs ls hP hD hS hl)
theorem w_bipush (hG : zw_R l b L xs q r ca G) {n : Int} {v : Int32} (d : decode code pc = .ok (.bipush n, 2)) (hv : (Int8.ofInt n).toInt32 = v) (k : G x y (pc + 2) lv (.int v :: st)) : G x y pc lv (st) := by
  obtain ⟨p, e, s, m, below, meth, c, D, rfl, ⟨hx, hb, hr, hml, hown, hts, hX, hbl, hlocks, hgv⟩, hK⟩ := hG
  have hbA : ¬ (fun z : Nat => s.heap.size ≤ z) b := Nat.not_le.mpr hbl
  intro H locs ls hP hD hS hl
  exact lv_bipush hx hb d hv (k H locs ls hP hD hS hl)
theorem w_iadd (hG : zw_R l b L xs q r ca G) {u v z : Int32} (d : decode code pc = .ok (.iadd, 1)) (hz : u + v = z) (k : G x y (pc + 1) lv (.int z :: st)) : G x y pc lv (.int v :: .int u :: st) := by
  obtain ⟨p, e, s, m, below, meth, c, D, rfl, ⟨hx, hb, hr, hml, hown, hts, hX, hbl, hlocks, hgv⟩, hK⟩ := hG
  have hbA : ¬ (fun z : Nat => s.heap.size ≤ z) b := Nat.not_le.mpr hbl
  intro H locs ls hP hD hS hl
  exact lv_iadd hx hb d (by rw [hz]; exact k H locs ls hP hD hS hl)
theorem w_isub (hG : zw_R l b L xs q r ca G) {u v z : Int32} (d : decode code pc = .ok (.isub, 1)) (hz : u - v = z) (k : G x y (pc + 1) lv (.int z :: st)) : G x y pc lv (.int v :: .int u :: st) := by
  obtain ⟨p, e, s, m, below, meth, c, D, rfl, ⟨hx, hb, hr, hml, hown, hts, hX, hbl, hlocks, hgv⟩, hK⟩ := hG
  have hbA : ¬ (fun z : Nat => s.heap.size ≤ z) b := Nat.not_le.mpr hbl
  intro H locs ls hP hD hS hl
  exact lv_isub hx hb d (by rw [hz]; exact k H locs ls hP hD hS hl)
theorem w_iand (hG : zw_R l b L xs q r ca G) {u v z : Int32} (d : decode code pc = .ok (.iand, 1)) (hz : u &&& v = z) (k : G x y (pc + 1) lv (.int z :: st)) : G x y pc lv (.int v :: .int u :: st) := by
  obtain ⟨p, e, s, m, below, meth, c, D, rfl, ⟨hx, hb, hr, hml, hown, hts, hX, hbl, hlocks, hgv⟩, hK⟩ := hG
  have hbA : ¬ (fun z : Nat => s.heap.size ≤ z) b := Nat.not_le.mpr hbl
  intro H locs ls hP hD hS hl
  exact lv_iand hx hb d (by rw [hz]; exact k H locs ls hP hD hS hl)
theorem w_goto (hG : zw_R l b L xs q r ca G) {off : Int} {tgt : Nat} (d : decode code pc = .ok (.goto off, 3)) (ht : (pc : Int) + off = (tgt : Int)) (k : G x y tgt lv st) : G x y pc lv (st) := by
  obtain ⟨p, e, s, m, below, meth, c, D, rfl, ⟨hx, hb, hr, hml, hown, hts, hX, hbl, hlocks, hgv⟩, hK⟩ := hG
  have hbA : ¬ (fun z : Nat => s.heap.size ≤ z) b := Nat.not_le.mpr hbl
  intro H locs ls hP hD hS hl
  exact lv_goto hx hb d ht (k H locs ls hP hD hS hl)
theorem w_slen (hG : zw_R l b L xs q r ca G) (d : decode code pc = .ok (.arraylength, 1)) (k : G x y (pc + 1) lv (.int (nI L) :: st)) : G x y pc lv (.ref b :: st) := by
  obtain ⟨p, e, s, m, below, meth, c, D, rfl, ⟨hx, hb, hr, hml, hown, hts, hX, hbl, hlocks, hgv⟩, hK⟩ := hG
  have hbA : ¬ (fun z : Nat => s.heap.size ≤ z) b := Nat.not_le.mpr hbl
  intro H locs ls hP hD hS hl
  exact va_slen hx hb hX hbl hbA hS d (k H locs ls hP hD hS hl)
theorem w_sld (hG : zw_R l b L xs q r ca G) {i : Nat} (hi : i < L) (hL : L ≤ 192) (d : decode code pc = .ok (.iaload, 1)) (k : G x y (pc + 1) lv (.int (xs i) :: st)) : G x y pc lv (.int (nI i) :: .ref b :: st) := by
  obtain ⟨p, e, s, m, below, meth, c, D, rfl, ⟨hx, hb, hr, hml, hown, hts, hX, hbl, hlocks, hgv⟩, hK⟩ := hG
  have hbA : ¬ (fun z : Nat => s.heap.size ≤ z) b := Nat.not_le.mpr hbl
  intro H locs ls hP hD hS hl
  refine va_sld hx hb hX hbl hbA hS (vp_in_nI hi (by omega)) d ?_
  rw [nI_clamp (by omega)]
  exact k H locs ls hP hD hS hl
theorem w_gt (hG : zw_R l b L xs q r ca G) {u v : Int32} {off : Int} {tgt : Nat} (d : decode code pc = .ok (.if_icmp .gt off, 3)) (ht : (pc : Int) + off = (tgt : Int)) (kt : v < u → G x y tgt lv st) (kf : ¬ (v < u) → G x y (pc + 3) lv st) : G x y pc lv (.int v :: .int u :: st) := by
  obtain ⟨p, e, s, m, below, meth, c, D, rfl, ⟨hx, hb, hr, hml, hown, hts, hX, hbl, hlocks, hgv⟩, hK⟩ := hG
  have hbA : ¬ (fun z : Nat => s.heap.size ≤ z) b := Nat.not_le.mpr hbl
  intro H locs ls hP hD hS hl
  exact lv_icmp_gt hx hb d ht (fun h => kt h H locs ls hP hD hS hl) (fun h => kf h H locs ls hP hD hS hl)
theorem w_same (hG : zw_R l b L xs q r ca G) {u : Int32} {off : Int} {tgt : Nat} (d : decode code pc = .ok (.if_icmp .eq off, 3)) (ht : (pc : Int) + off = (tgt : Int)) (kt : G x y tgt lv st) : G x y pc lv (.int u :: .int u :: st) := by
  obtain ⟨p, e, s, m, below, meth, c, D, rfl, ⟨hx, hb, hr, hml, hown, hts, hX, hbl, hlocks, hgv⟩, hK⟩ := hG
  have hbA : ¬ (fun z : Nat => s.heap.size ≤ z) b := Nat.not_le.mpr hbl
  intro H locs ls hP hD hS hl
  exact lv_icmp_eq hx hb d ht (fun _ => kt H locs ls hP hD hS hl) (fun h => absurd rfl h)
theorem w_inc (hG : zw_R l b L xs q r ca G) {i : Nat} (kk : G x y 335 (zw_lv b q r (i + 3)) []) : G x y 332 (zw_lv b q r i) [] := by
  obtain ⟨p, e, s, m, below, meth, c, D, rfl, ⟨hx, hb, hr, hml, hown, hts, hX, hbl, hlocks, hgv⟩, hK⟩ := hG
  have hbA : ¬ (fun z : Nat => s.heap.size ≤ z) b := Nat.not_le.mpr hbl
  intro H locs ls hP hD hS hl
  exact lv_iinc (v := nI (i + 3)) (lv' := [(3, .int (nI (i + 3))), (0, .ref b), (1, .ref (q 0)), (2, .ref (r 0))]) hx hb dL_law_332 hl (k := 3) rfl (nI_add i 3) (by decide) rfl (fun ls hl => kk H locs ls hP hD hS (lv_sub hl [1, 2, 3, 0] rfl))
theorem w_end (hG : zw_R l b L xs q r ca G) : G x y 338 lv [] := by
  obtain ⟨p, e, s, m, below, meth, c, D, rfl, ⟨hx, hb, hr, hml, hown, hts, hX, hbl, hlocks, hgv⟩, hK⟩ := hG
  have hbA : ¬ (fun z : Nat => s.heap.size ≤ z) b := Nat.not_le.mpr hbl
  intro H locs ls hP hD hS hl
  refine lv_iconst (v := 1) hx hb dL_law_338 (by decide) ?_
  refine va_forget (fun z hz => hS.2.2 z hz) ?_
  refine W.widen (k := 600000) (n := 7290000) (by decide) (by decide) ?_
  exact lw_ret hx hb hr hlocks dL_law_339
theorem w_sw (hG : zw_R l b L xs q r ca G) {j : Nat} (hj : j < 16) (k0 : G x y 96 lv st) (k1 : G x y 119 lv st) (k2 : G x y 132 lv st) (k3 : G x y 145 lv st) (k4 : G x y 158 lv st) (k5 : G x y 191 lv st) (k6 : G x y 214 lv st) (k7 : G x y 237 lv st) (k8 : G x y 260 lv st) (k9 : G x y 273 lv st) (k10 : G x y 286 lv st) (k11 : G x y 309 lv st) (kd : G x y 332 lv st) : G x y 32 lv (.int (nI j) :: st) := by
  obtain ⟨p, e, s, m, below, meth, c, D, rfl, ⟨hx, hb, hr, hml, hown, hts, hX, hbl, hlocks, hgv⟩, hK⟩ := hG
  have hbA : ¬ (fun z : Nat => s.heap.size ≤ z) b := Nat.not_le.mpr hbl
  intro H locs ls hP hD hS hl
  rcases (show j = 0 ∨ j = 1 ∨ j = 2 ∨ j = 3 ∨ j = 4 ∨ j = 5 ∨ j = 6 ∨ j = 7 ∨ j = 8 ∨ j = 9 ∨ j = 10 ∨ j = 11 ∨ j = 12 ∨ j = 13 ∨ j = 14 ∨ j = 15 by omega) with rfl | rfl | rfl | rfl | rfl | rfl | rfl | rfl | rfl | rfl | rfl | rfl | rfl | rfl | rfl | rfl
  · exact lv_tableIn (off := 64) (tgt := 96) hx hb dL_law_32 (by decide) (by decide) (by decide) (by decide) (k0 H locs ls hP hD hS hl)
  · exact lv_tableIn (off := 87) (tgt := 119) hx hb dL_law_32 (by decide) (by decide) (by decide) (by decide) (k1 H locs ls hP hD hS hl)
  · exact lv_tableIn (off := 100) (tgt := 132) hx hb dL_law_32 (by decide) (by decide) (by decide) (by decide) (k2 H locs ls hP hD hS hl)
  · exact lv_tableIn (off := 113) (tgt := 145) hx hb dL_law_32 (by decide) (by decide) (by decide) (by decide) (k3 H locs ls hP hD hS hl)
  · exact lv_tableIn (off := 126) (tgt := 158) hx hb dL_law_32 (by decide) (by decide) (by decide) (by decide) (k4 H locs ls hP hD hS hl)
  · exact lv_tableIn (off := 159) (tgt := 191) hx hb dL_law_32 (by decide) (by decide) (by decide) (by decide) (k5 H locs ls hP hD hS hl)
  · exact lv_tableIn (off := 182) (tgt := 214) hx hb dL_law_32 (by decide) (by decide) (by decide) (by decide) (k6 H locs ls hP hD hS hl)
  · exact lv_tableIn (off := 205) (tgt := 237) hx hb dL_law_32 (by decide) (by decide) (by decide) (by decide) (k7 H locs ls hP hD hS hl)
  · exact lv_tableIn (off := 228) (tgt := 260) hx hb dL_law_32 (by decide) (by decide) (by decide) (by decide) (k8 H locs ls hP hD hS hl)
  · exact lv_tableIn (off := 241) (tgt := 273) hx hb dL_law_32 (by decide) (by decide) (by decide) (by decide) (k9 H locs ls hP hD hS hl)
  · exact lv_tableIn (off := 254) (tgt := 286) hx hb dL_law_32 (by decide) (by decide) (by decide) (by decide) (k10 H locs ls hP hD hS hl)
  · exact lv_tableIn (off := 277) (tgt := 309) hx hb dL_law_32 (by decide) (by decide) (by decide) (by decide) (k11 H locs ls hP hD hS hl)
  · exact lv_tableOut (tgt := 332) hx hb dL_law_32 (by decide) (by decide) (kd H locs ls hP hD hS hl)
  · exact lv_tableOut (tgt := 332) hx hb dL_law_32 (by decide) (by decide) (kd H locs ls hP hD hS hl)
  · exact lv_tableOut (tgt := 332) hx hb dL_law_32 (by decide) (by decide) (kd H locs ls hP hD hS hl)
  · exact lv_tableOut (tgt := 332) hx hb dL_law_32 (by decide) (by decide) (kd H locs ls hP hD hS hl)
set_option maxHeartbeats 4000000 in
theorem w_callX (hG : zw_R l b L xs q r ca G) {yn : MethodName} {bb : ByteArray} {nL' fr' lo' : Nat} {ret' : Option FieldType} {As : List Value} {post' : Option Value → zS → Prop} (hM : zc_M l zc_XL yn bb nL' fr' lo' ret' As x post') {idx : Nat} (n : Nat) (h1 : Cond.methodLink R_law idx yn ∈ lw_all) (h2 : Cond.instanceMethod yn ∈ lw_all) (h3 : Cond.selects RX0 yn yn ∈ lw_all) (h4 : Cond.initialized RX0 ∈ lw_all) (h5 : Cond.code yn bb nL' ret' ∈ lw_all) (hd : yn.cls = RX0 ∧ yn.cls ≠ "java/lang/invoke/MethodHandle" ∧ yn.cls ≠ "java/lang/invoke/VarHandle" ∧ (parseMethodDescriptor yn.desc).map (fun d => d.parameters.length) = some n) (hn : As.length = n) (hrm : fr' + 1 ≤ 9 ∧ 8 + (nL' + 11) + lo' ≤ 326)
    {st0 : List Value} (rest : List Value) (hst : st0 = As.reverse ++ .ref (q 0) :: rest) (hcat : (rest.map fun v => v.category).sum ≤ 8) (d : decode code pc = .ok (.invokevirtual idx, 3)) (kk : ∀ v s', post' v s' → G s' y (pc + 3) lv (v.toList ++ rest)) : G x y pc lv st0 := by
  subst hst
  obtain ⟨p, e, s, m, below, meth, c, D, rfl, ⟨hx, hb, hr, hml, hown, hts, hX, hbl, hlocks, hgv⟩, hK⟩ := hG
  have hbA : ¬ (fun z : Nat => s.heap.size ≤ z) b := Nat.not_le.mpr hbl
  intro H locs ls hP hD hS hl
  have hA : ∀ z : Nat, s.heap.size ≤ z → (fun z : Nat => s.heap.size ≤ z) z := fun _ h => h
  have hts : ∀ w ∈ lw_all, w.before #[Value.ref b] s = true := fun w h => hts w (lw_all_tbl h)
  have hPc : va_P D vwCl (zc_XL q ca x) H := hP.sub [0, 1, 2, 3, 4, 5, 6, 7, 8, 9] rfl
  have hDc : va_D (fun z : Nat => s.heap.size ≤ z) (zc_XL q ca x) := hD.sub [0, 1, 2, 3, 4, 5, 6, 7, 8, 9] (by decide) rfl
  have hF2 : ∀ z, va_A (zc_XL q ca x) H.size z → s.heap.size ≤ z := va_free (wc := zc_XL q ca x) hD hS hA [0, 1, 2, 3, 4, 5, 6, 7, 8, 9] rfl
  have hrun := va_runV (g := F0 m pc ls (As.reverse ++ .ref (q 0) :: rest)) (As := As) (rest := rest) (b := q 0) (C := RX0) (cells := 13) (slots := 1138) (locs := locs) (below := below) (e := e) (meth := meth) (H := H) (own := R_law) (cc := code) (nL := 4) ⟨hx, hb, hml, hown, hts⟩ (hM D q ca H.size) (cwV n hts (lw_V h1 h2 h3 h4 h5) rfl rfl rfl hd (R := room_1) ⟨hrm.1, hrm.2⟩) ⟨fun a U g mk z => by obtain ⟨q0, q1, qP, qK, qD⟩ := z; exact ⟨q0, q1, qP, va_K.moved (u := U) (U := U.calling g mk a) (Vm.Alike.refl U.vm) qK, qD⟩, va_recv (q0 := 0) (ci := 0) hK hPc rfl rfl, fun U hU hW => ⟨rfl, by rw [hU], by rw [hU]; exact hPc, va_K.moved hW.alike hK, hDc.weaken (fun _ _ _ _ => trivial)⟩⟩ rfl hn hl.1 rfl (lv_room hcat) d ⟨Nat.le_of_ble_eq_true rfl, Nat.le_of_ble_eq_true rfl⟩
  intro T hT X
  obtain ⟨v, st₀, t, T', L', h0, X', hL', e1, e2, ⟨⟨r', u, hv, hp, hbb⟩, hz, hk⟩, stp⟩ := hrun T hT X
  cases hv
  rw [h0] at hz hk
  obtain ⟨hP2, hD2⟩ := va_join (wr := zc_ML r ca y) (w1 := zc_XL q ca u) hP hD [0, 1, 2, 3, 4, 5, 6, 7, 8, 9] [10, 11, 12] rfl rfl (by decide) (by decide) hk hF2 hbb.1 hbb.2.2
  obtain ⟨t2, a1, b1⟩ := kk v u hp T'.heap (locs ++ L') ls (by rw [e1]; exact hP2.sub [3, 4, 5, 6, 7, 8, 9, 10, 11, 12, 0, 1, 2] rfl) (hD2.sub [3, 4, 5, 6, 7, 8, 9, 10, 11, 12, 0, 1, 2] (by decide) rfl)
    ⟨Nat.le_trans hS.1 (by rw [e1]; exact hz), fun z h1 h2 => by rw [e1, hk z (Nat.lt_of_lt_of_le h1 hS.1) (fun q => h2 (hF2 z q))]; exact hS.2.1 z h1 h2, fun z hz => by
      rcases List.mem_append.mp hz with h | h
      · exact hS.2.2 z h
      · exact hF2 _ (hL' z h)⟩ hl T' rfl X'
  exact ⟨t2, stp t2 a1, b1⟩
set_option maxHeartbeats 4000000 in
theorem w_callM (hG : zw_R l b L xs q r ca G) {yn : MethodName} {bb : ByteArray} {nL' fr' lo' : Nat} {ret' : Option FieldType} {As : List Value} {post' : Option Value → zS → Prop} (hM : zc_M l zc_ML yn bb nL' fr' lo' ret' As y post') {idx : Nat} (n : Nat) (h1 : Cond.methodLink R_law idx yn ∈ lw_all) (h2 : Cond.instanceMethod yn ∈ lw_all) (h3 : Cond.selects RX1 yn yn ∈ lw_all) (h4 : Cond.initialized RX1 ∈ lw_all) (h5 : Cond.code yn bb nL' ret' ∈ lw_all) (hd : yn.cls = RX1 ∧ yn.cls ≠ "java/lang/invoke/MethodHandle" ∧ yn.cls ≠ "java/lang/invoke/VarHandle" ∧ (parseMethodDescriptor yn.desc).map (fun d => d.parameters.length) = some n) (hn : As.length = n) (hrm : fr' + 1 ≤ 9 ∧ 8 + (nL' + 11) + lo' ≤ 326)
    {st0 : List Value} (rest : List Value) (hst : st0 = As.reverse ++ .ref (r 0) :: rest) (hcat : (rest.map fun v => v.category).sum ≤ 8) (d : decode code pc = .ok (.invokevirtual idx, 3)) (kk : ∀ v s', post' v s' → G x s' (pc + 3) lv (v.toList ++ rest)) : G x y pc lv st0 := by
  subst hst
  obtain ⟨p, e, s, m, below, meth, c, D, rfl, ⟨hx, hb, hr, hml, hown, hts, hX, hbl, hlocks, hgv⟩, hK⟩ := hG
  have hbA : ¬ (fun z : Nat => s.heap.size ≤ z) b := Nat.not_le.mpr hbl
  intro H locs ls hP hD hS hl
  have hA : ∀ z : Nat, s.heap.size ≤ z → (fun z : Nat => s.heap.size ≤ z) z := fun _ h => h
  have hts : ∀ w ∈ lw_all, w.before #[Value.ref b] s = true := fun w h => hts w (lw_all_tbl h)
  have hPc : va_P D vwCl (zc_ML r ca y) H := hP.sub [10, 11, 12] rfl
  have hDc : va_D (fun z : Nat => s.heap.size ≤ z) (zc_ML r ca y) := hD.sub [10, 11, 12] (by decide) rfl
  have hF2 : ∀ z, va_A (zc_ML r ca y) H.size z → s.heap.size ≤ z := va_free (wc := zc_ML r ca y) hD hS hA [10, 11, 12] rfl
  have hrun := va_runV (g := F0 m pc ls (As.reverse ++ .ref (r 0) :: rest)) (As := As) (rest := rest) (b := r 0) (C := RX1) (cells := 13) (slots := 1138) (locs := locs) (below := below) (e := e) (meth := meth) (H := H) (own := R_law) (cc := code) (nL := 4) ⟨hx, hb, hml, hown, hts⟩ (hM D r ca H.size) (cwV n hts (lw_V h1 h2 h3 h4 h5) rfl rfl rfl hd (R := room_1) ⟨hrm.1, hrm.2⟩) ⟨fun a U g mk z => by obtain ⟨q0, q1, qP, qK, qD⟩ := z; exact ⟨q0, q1, qP, va_K.moved (u := U) (U := U.calling g mk a) (Vm.Alike.refl U.vm) qK, qD⟩, va_recv (q0 := 0) (ci := 1) hK hPc rfl rfl, fun U hU hW => ⟨rfl, by rw [hU], by rw [hU]; exact hPc, va_K.moved hW.alike hK, hDc.weaken (fun _ _ _ _ => trivial)⟩⟩ rfl hn hl.1 rfl (lv_room hcat) d ⟨Nat.le_of_ble_eq_true rfl, Nat.le_of_ble_eq_true rfl⟩
  intro T hT X
  obtain ⟨v, st₀, t, T', L', h0, X', hL', e1, e2, ⟨⟨r', u, hv, hp, hbb⟩, hz, hk⟩, stp⟩ := hrun T hT X
  cases hv
  rw [h0] at hz hk
  obtain ⟨hP2, hD2⟩ := va_join (wr := zc_XL q ca x) (w1 := zc_ML r ca u) hP hD [10, 11, 12] [0, 1, 2, 3, 4, 5, 6, 7, 8, 9] rfl rfl (by decide) (by decide) hk hF2 hbb.1 hbb.2.2
  obtain ⟨t2, a1, b1⟩ := kk v u hp T'.heap (locs ++ L') ls (by rw [e1]; exact hP2) (hD2)
    ⟨Nat.le_trans hS.1 (by rw [e1]; exact hz), fun z h1 h2 => by rw [e1, hk z (Nat.lt_of_lt_of_le h1 hS.1) (fun q => h2 (hF2 z q))]; exact hS.2.1 z h1 h2, fun z hz => by
      rcases List.mem_append.mp hz with h | h
      · exact hS.2.2 z h
      · exact hF2 _ (hL' z h)⟩ hl T' rfl X'
  exact ⟨t2, stp t2 a1, b1⟩
end
end
section
set_option maxRecDepth 100000
theorem zw_int_add {s : zS} {x : Int32} {v : Option Value} {s' : zS} (h : (s 0 0 = 10 ∧ v = some (.int (-2)) ∧ s = s') ∨ (s 0 0 < 10 ∧ ¬ zp_is (s 0 0) x ∧ v = some (.int (-1)) ∧ s = s') ∨ (s 0 0 < 10 ∧ ∃ a, a < 2 ^ s 0 0 ∧ x = nI a ∧ v = some (.int (nI (s 0 0 + 1))) ∧ s' 0 0 = s 0 0 + 1 ∧ s' 1 = zc_up (s 1) (s 0 0) (zp_all (s 1) a (s 0 0)) ∧ zx_I s')) : ∃ z : Int32, v = some (.int z) := by
  rcases h with ⟨_, h, _⟩ | ⟨_, _, h, _⟩ | ⟨_, _, _, _, h, _⟩ <;> exact ⟨_, h⟩
theorem zw_int_removeLast {s : zS} {v : Option Value} {s' : zS} (h : (s 0 0 = 0 ∧ v = some (.int (-1)) ∧ s = s') ∨ (0 < s 0 0 ∧ v = some (.int (nI (s 0 0 - 1))) ∧ ∃ f, s' = zc_st (zc_ar (zc_st s 0 0 (s 0 0 - 1)) 2 f) 0 1 0 ∧ ∀ j, j < s 0 0 - 1 → f j = zb_dif (s 2 j) (2 ^ (s 0 0 - 1)))) : ∃ z : Int32, v = some (.int z) := by
  rcases h with ⟨_, h, _⟩ | ⟨_, h, _⟩ <;> exact ⟨_, h⟩
theorem zw_int_turn {s : zS} {v : Option Value} {s' : zS} (h : ∃ f g, s' = zc_st (zc_ar (zc_ar s 1 f) 2 g) 0 1 0 ∧ v = some (.int (nI (s 0 0))) ∧ (∀ j, j < s 0 0 → f j = zp_rev (s 0 0) (s 2 (s 0 0 - 1 - j)) ∧ g j = zp_rev (s 0 0) (s 1 (s 0 0 - 1 - j))) ∧ ∀ j, s 0 0 ≤ j → f j = s 1 j) : ∃ z : Int32, v = some (.int z) := by
  obtain ⟨_, _, _, h, _⟩ := h; exact ⟨_, h⟩
theorem zw_int_size {s : zS} {v : Option Value} {s' : zS} (h : v = some (.int (nI (s 0 0))) ∧ s = s') : ∃ z : Int32, v = some (.int z) := by
  exact ⟨_, h.1⟩
theorem zw_int_below {s : zS} {x y : Int32} {v : Option Value} {s' : zS} (h : v = some (.int (pB (zp_bel (s 0 0) (s 1) x y))) ∧ s = s') : ∃ z : Int32, v = some (.int z) := by
  exact ⟨_, h.1⟩
theorem zw_int_width {s : zS} {x : Int32} {v : Option Value} {s' : zS} (h : zx_eq s s' ∧ zx_I s' ∧ ((¬ zp_is (s 0 0) x ∧ v = some (.int (-1))) ∨ ∃ a k, a < 2 ^ s 0 0 ∧ x = nI a ∧ k ≤ 10 ∧ zp_Mx (s 0 0) (s 1) a False k ∧ v = some (.int (nI k)))) : ∃ z : Int32, v = some (.int z) := by
  obtain ⟨_, _, h⟩ := h; rcases h with ⟨_, h⟩ | ⟨_, _, _, _, _, _, h⟩ <;> exact ⟨_, h⟩
theorem zw_int_chains {s : zS} {x : Int32} {v : Option Value} {s' : zS} (h : zx_eq s s' ∧ zx_I s' ∧ ((¬ zp_is (s 0 0) x ∧ v = some (.int (-1))) ∨ ∃ a k, a < 2 ^ s 0 0 ∧ x = nI a ∧ k ≤ 10 ∧ zp_Mx (s 0 0) (s 1) a False k ∧ zp_Cov (s 0 0) (s 1) k a ∧ v = some (.int (nI k)))) : ∃ z : Int32, v = some (.int z) := by
  obtain ⟨_, _, h⟩ := h; rcases h with ⟨_, h⟩ | ⟨_, _, _, _, _, _, _, h⟩ <;> exact ⟨_, h⟩
theorem zw_int_longestChain {s : zS} {x : Int32} {v : Option Value} {s' : zS} (h : ∃ f, s' = zc_ar s 9 f ∧ ((¬ zp_is (s 0 0) x ∧ v = some (.int (-1))) ∨ (∃ a k, a < 2 ^ s 0 0 ∧ x = nI a ∧ zp_Mx (s 0 0) (s 1) a True k ∧ v = some (.int (nI k))))) : ∃ z : Int32, v = some (.int z) := by
  obtain ⟨_, _, h⟩ := h; rcases h with ⟨_, h⟩ | ⟨_, _, _, _, _, h⟩ <;> exact ⟨_, h⟩
theorem zw_int_lowest {s : zS} {v : Option Value} {s' : zS} (h : ∃ a, zx_eq s s' ∧ zx_I s' ∧ a < 1024 ∧ zp_Ex (s 0 0) (s 1) True a ∧ v = some (.int (nI a))) : ∃ z : Int32, v = some (.int z) := by
  obtain ⟨_, _, _, _, _, h⟩ := h; exact ⟨_, h⟩
theorem zw_int_highest {s : zS} {v : Option Value} {s' : zS} (h : ∃ a, zx_eq s s' ∧ zx_I s' ∧ a < 1024 ∧ zp_Ex (s 0 0) (s 1) False a ∧ v = some (.int (nI a))) : ∃ z : Int32, v = some (.int z) := by
  obtain ⟨_, _, _, _, _, h⟩ := h; exact ⟨_, h⟩
theorem zw_int_isLargest {s : zS} {x : Int32} {v : Option Value} {s' : zS} (h : zx_eq s s' ∧ zx_I s' ∧ v = some (.int (pB (∃ a, x = nI a ∧ zp_La (s 0 0) (s 1) a)))) : ∃ z : Int32, v = some (.int z) := by
  exact ⟨_, h.2.2⟩
theorem zw_int_inSomeLargest {s : zS} {x : Int32} {v : Option Value} {s' : zS} (h : zx_eq s s' ∧ zx_I s' ∧ v = some (.int (pB (∃ z a, z < s 0 0 ∧ x = nI z ∧ zp_La (s 0 0) (s 1) a ∧ a.testBit z = true)))) : ∃ z : Int32, v = some (.int z) := by
  exact ⟨_, h.2.2⟩
section
variable {l : Launch} {b L : Nat} {xs : Nat → Int32} {q r : Nat → Nat} {ca : Nat → ClassId} {G : zS → zS → Nat → List (Nat × Value) → List Value → Prop} {x y : zS} {i : Nat}
theorem w_c0 (hG : zw_R l b L xs q r ca G) (hi : i + 3 ≤ L) (hL : L ≤ 192) (hI : zw_I x y) (kk : ∀ x' y', zw_I x' y' → G x' y' 332 (zw_lv b q r i) []) : G x y 96 (zw_lv b q r i) [] := by
  refine w_aload_n hG dL_law_96 rfl 1 rfl ?_
  refine w_aload_n hG dL_law_97 rfl 0 rfl ?_
  refine w_iload_n hG dL_law_98 rfl 3 rfl ?_
  refine w_iconst (v := nI 1) hG dL_law_99 rfl ?_
  refine w_iadd (z := nI (i + 1)) hG dL_law_100 (nI_add _ _) ?_
  refine w_sld (i := i + 1) hG (by omega) hL dL_law_101 ?_
  refine w_callX hG (mX_add l x (xs (i + 1)) (hI.1)) 1 q72 q73 q74 q26 q75 (by decide +kernel) rfl ⟨by decide, by decide⟩ [] rfl (by simp [Value.category]) dL_law_102 ?_
  intro v x' hx
  obtain ⟨z, rfl⟩ : ∃ z : Int32, v = some (.int z) := zw_int_add hx
  refine w_aload_n hG dL_law_105 rfl 2 rfl ?_
  refine w_aload_n hG dL_law_106 rfl 0 rfl ?_
  refine w_iload_n hG dL_law_107 rfl 3 rfl ?_
  refine w_iconst (v := nI 1) hG dL_law_108 rfl ?_
  refine w_iadd (z := nI (i + 1)) hG dL_law_109 (nI_add _ _) ?_
  refine w_sld (i := i + 1) hG (by omega) hL dL_law_110 ?_
  refine w_callM hG (mM_add l y (xs (i + 1)) (hI.ok)) 1 q193 q194 q195 q27 q196 (by decide +kernel) rfl ⟨by decide, by decide⟩ [.int z] rfl (by simp [Value.category]) dL_law_111 ?_
  intro v y' hy
  obtain ⟨z', e1, rfl, hJ⟩ := zw_add hI hx hy
  obtain rfl : z = z' := by injection e1 with e1; injection e1
  exact w_same (tgt := 332) hG dL_law_114 (by decide) (kk _ _ hJ)
theorem w_c1 (hG : zw_R l b L xs q r ca G) (hi : i + 3 ≤ L) (hL : L ≤ 192) (hI : zw_I x y) (kk : ∀ x' y', zw_I x' y' → G x' y' 332 (zw_lv b q r i) []) : G x y 119 (zw_lv b q r i) [] := by
  refine w_aload_n hG dL_law_119 rfl 1 rfl ?_
  refine w_callX hG (mX_removeLast l x  (hI.1.1.ok)) 0 q100 q101 q102 q26 q103 (by decide +kernel) rfl ⟨by decide, by decide⟩ [] rfl (by simp [Value.category]) dL_law_120 ?_
  intro v x' hx
  obtain ⟨z, rfl⟩ : ∃ z : Int32, v = some (.int z) := zw_int_removeLast hx
  refine w_aload_n hG dL_law_123 rfl 2 rfl ?_
  refine w_callM hG (mM_removeLast l y  (hI.nM)) 0 q205 q206 q207 q27 q208 (by decide +kernel) rfl ⟨by decide, by decide⟩ [.int z] rfl (by simp [Value.category]) dL_law_124 ?_
  intro v y' hy
  obtain ⟨z', e1, rfl, hJ⟩ := zw_rem hI hx hy
  obtain rfl : z = z' := by injection e1 with e1; injection e1
  exact w_same (tgt := 332) hG dL_law_127 (by decide) (kk _ _ hJ)
theorem w_c2 (hG : zw_R l b L xs q r ca G) (hi : i + 3 ≤ L) (hL : L ≤ 192) (hI : zw_I x y) (kk : ∀ x' y', zw_I x' y' → G x' y' 332 (zw_lv b q r i) []) : G x y 132 (zw_lv b q r i) [] := by
  refine w_aload_n hG dL_law_132 rfl 1 rfl ?_
  refine w_callX hG (mX_turn l x  (hI.1.1.ok)) 0 q104 q105 q106 q26 q107 (by decide +kernel) rfl ⟨by decide, by decide⟩ [] rfl (by simp [Value.category]) dL_law_133 ?_
  intro v x' hx
  obtain ⟨z, rfl⟩ : ∃ z : Int32, v = some (.int z) := zw_int_turn hx
  refine w_aload_n hG dL_law_136 rfl 2 rfl ?_
  refine w_callM hG (mM_turn l y  (hI.ok)) 0 q209 q210 q211 q27 q212 (by decide +kernel) rfl ⟨by decide, by decide⟩ [.int z] rfl (by simp [Value.category]) dL_law_137 ?_
  intro v y' hy
  obtain ⟨z', e1, rfl, hJ⟩ := zw_turn hI hx hy
  obtain rfl : z = z' := by injection e1 with e1; injection e1
  exact w_same (tgt := 332) hG dL_law_140 (by decide) (kk _ _ hJ)
theorem w_c3 (hG : zw_R l b L xs q r ca G) (hi : i + 3 ≤ L) (hL : L ≤ 192) (hI : zw_I x y) (kk : ∀ x' y', zw_I x' y' → G x' y' 332 (zw_lv b q r i) []) : G x y 145 (zw_lv b q r i) [] := by
  refine w_aload_n hG dL_law_145 rfl 1 rfl ?_
  refine w_callX hG (mX_size l x  ) 0 q116 q117 q118 q26 q119 (by decide +kernel) rfl ⟨by decide, by decide⟩ [] rfl (by simp [Value.category]) dL_law_146 ?_
  intro v x' hx
  obtain ⟨z, rfl⟩ : ∃ z : Int32, v = some (.int z) := zw_int_size hx
  refine w_aload_n hG dL_law_149 rfl 2 rfl ?_
  refine w_callM hG (mM_size l y  ) 0 q213 q214 q215 q27 q216 (by decide +kernel) rfl ⟨by decide, by decide⟩ [.int z] rfl (by simp [Value.category]) dL_law_150 ?_
  intro v y' hy
  obtain ⟨z', e1, rfl, hJ⟩ := zw_size hI hx hy
  obtain rfl : z = z' := by injection e1 with e1; injection e1
  exact w_same (tgt := 332) hG dL_law_153 (by decide) (kk _ _ hJ)
theorem w_c4 (hG : zw_R l b L xs q r ca G) (hi : i + 3 ≤ L) (hL : L ≤ 192) (hI : zw_I x y) (kk : ∀ x' y', zw_I x' y' → G x' y' 332 (zw_lv b q r i) []) : G x y 158 (zw_lv b q r i) [] := by
  refine w_aload_n hG dL_law_158 rfl 1 rfl ?_
  refine w_aload_n hG dL_law_159 rfl 0 rfl ?_
  refine w_iload_n hG dL_law_160 rfl 3 rfl ?_
  refine w_iconst (v := nI 1) hG dL_law_161 rfl ?_
  refine w_iadd (z := nI (i + 1)) hG dL_law_162 (nI_add _ _) ?_
  refine w_sld (i := i + 1) hG (by omega) hL dL_law_163 ?_
  refine w_aload_n hG dL_law_164 rfl 0 rfl ?_
  refine w_iload_n hG dL_law_165 rfl 3 rfl ?_
  refine w_iconst (v := nI 2) hG dL_law_166 rfl ?_
  refine w_iadd (z := nI (i + 2)) hG dL_law_167 (nI_add _ _) ?_
  refine w_sld (i := i + 2) hG (by omega) hL dL_law_168 ?_
  refine w_callX hG (mX_below l x (xs (i + 1)) (xs (i + 2)) (hI.1.1.ok)) 2 q120 q121 q122 q26 q123 (by decide +kernel) rfl ⟨by decide, by decide⟩ [] rfl (by simp [Value.category]) dL_law_169 ?_
  intro v x' hx
  obtain ⟨z, rfl⟩ : ∃ z : Int32, v = some (.int z) := zw_int_below hx
  refine w_aload_n hG dL_law_172 rfl 2 rfl ?_
  refine w_aload_n hG dL_law_173 rfl 0 rfl ?_
  refine w_iload_n hG dL_law_174 rfl 3 rfl ?_
  refine w_iconst (v := nI 1) hG dL_law_175 rfl ?_
  refine w_iadd (z := nI (i + 1)) hG dL_law_176 (nI_add _ _) ?_
  refine w_sld (i := i + 1) hG (by omega) hL dL_law_177 ?_
  refine w_aload_n hG dL_law_178 rfl 0 rfl ?_
  refine w_iload_n hG dL_law_179 rfl 3 rfl ?_
  refine w_iconst (v := nI 2) hG dL_law_180 rfl ?_
  refine w_iadd (z := nI (i + 2)) hG dL_law_181 (nI_add _ _) ?_
  refine w_sld (i := i + 2) hG (by omega) hL dL_law_182 ?_
  refine w_callM hG (mM_below l y (xs (i + 1)) (xs (i + 2)) (hI.ok)) 2 q217 q218 q219 q27 q220 (by decide +kernel) rfl ⟨by decide, by decide⟩ [.int z] rfl (by simp [Value.category]) dL_law_183 ?_
  intro v y' hy
  obtain ⟨z', e1, rfl, hJ⟩ := zw_below hI hx hy
  obtain rfl : z = z' := by injection e1 with e1; injection e1
  exact w_same (tgt := 332) hG dL_law_186 (by decide) (kk _ _ hJ)
theorem w_c5 (hG : zw_R l b L xs q r ca G) (hi : i + 3 ≤ L) (hL : L ≤ 192) (hI : zw_I x y) (kk : ∀ x' y', zw_I x' y' → G x' y' 332 (zw_lv b q r i) []) : G x y 191 (zw_lv b q r i) [] := by
  refine w_aload_n hG dL_law_191 rfl 1 rfl ?_
  refine w_aload_n hG dL_law_192 rfl 0 rfl ?_
  refine w_iload_n hG dL_law_193 rfl 3 rfl ?_
  refine w_iconst (v := nI 1) hG dL_law_194 rfl ?_
  refine w_iadd (z := nI (i + 1)) hG dL_law_195 (nI_add _ _) ?_
  refine w_sld (i := i + 1) hG (by omega) hL dL_law_196 ?_
  refine w_callX hG (mX_width l x (xs (i + 1)) (hI.1)) 1 q128 q129 q130 q26 q131 (by decide +kernel) rfl ⟨by decide, by decide⟩ [] rfl (by simp [Value.category]) dL_law_197 ?_
  intro v x' hx
  obtain ⟨z, rfl⟩ : ∃ z : Int32, v = some (.int z) := zw_int_width hx
  refine w_aload_n hG dL_law_200 rfl 2 rfl ?_
  refine w_aload_n hG dL_law_201 rfl 0 rfl ?_
  refine w_iload_n hG dL_law_202 rfl 3 rfl ?_
  refine w_iconst (v := nI 1) hG dL_law_203 rfl ?_
  refine w_iadd (z := nI (i + 1)) hG dL_law_204 (nI_add _ _) ?_
  refine w_sld (i := i + 1) hG (by omega) hL dL_law_205 ?_
  refine w_callM hG (mM_width l y (xs (i + 1)) (hI.ok)) 1 q221 q222 q223 q27 q224 (by decide +kernel) rfl ⟨by decide, by decide⟩ [.int z] rfl (by simp [Value.category]) dL_law_206 ?_
  intro v y' hy
  obtain ⟨z', e1, rfl, hJ⟩ := zw_width hI hx hy
  obtain rfl : z = z' := by injection e1 with e1; injection e1
  exact w_same (tgt := 332) hG dL_law_209 (by decide) (kk _ _ hJ)
theorem w_c6 (hG : zw_R l b L xs q r ca G) (hi : i + 3 ≤ L) (hL : L ≤ 192) (hI : zw_I x y) (kk : ∀ x' y', zw_I x' y' → G x' y' 332 (zw_lv b q r i) []) : G x y 214 (zw_lv b q r i) [] := by
  refine w_aload_n hG dL_law_214 rfl 1 rfl ?_
  refine w_aload_n hG dL_law_215 rfl 0 rfl ?_
  refine w_iload_n hG dL_law_216 rfl 3 rfl ?_
  refine w_iconst (v := nI 1) hG dL_law_217 rfl ?_
  refine w_iadd (z := nI (i + 1)) hG dL_law_218 (nI_add _ _) ?_
  refine w_sld (i := i + 1) hG (by omega) hL dL_law_219 ?_
  refine w_callX hG (mX_chains l x (xs (i + 1)) (hI.1)) 1 q148 q149 q150 q26 q151 (by decide +kernel) rfl ⟨by decide, by decide⟩ [] rfl (by simp [Value.category]) dL_law_220 ?_
  intro v x' hx
  obtain ⟨z, rfl⟩ : ∃ z : Int32, v = some (.int z) := zw_int_chains hx
  refine w_aload_n hG dL_law_223 rfl 2 rfl ?_
  refine w_aload_n hG dL_law_224 rfl 0 rfl ?_
  refine w_iload_n hG dL_law_225 rfl 3 rfl ?_
  refine w_iconst (v := nI 1) hG dL_law_226 rfl ?_
  refine w_iadd (z := nI (i + 1)) hG dL_law_227 (nI_add _ _) ?_
  refine w_sld (i := i + 1) hG (by omega) hL dL_law_228 ?_
  refine w_callM hG (mM_chains l y (xs (i + 1)) (hI.ok)) 1 q237 q238 q239 q27 q240 (by decide +kernel) rfl ⟨by decide, by decide⟩ [.int z] rfl (by simp [Value.category]) dL_law_229 ?_
  intro v y' hy
  obtain ⟨z', e1, rfl, hJ⟩ := zw_chains hI hx hy
  obtain rfl : z = z' := by injection e1 with e1; injection e1
  exact w_same (tgt := 332) hG dL_law_232 (by decide) (kk _ _ hJ)
theorem w_c7 (hG : zw_R l b L xs q r ca G) (hi : i + 3 ≤ L) (hL : L ≤ 192) (hI : zw_I x y) (kk : ∀ x' y', zw_I x' y' → G x' y' 332 (zw_lv b q r i) []) : G x y 237 (zw_lv b q r i) [] := by
  refine w_aload_n hG dL_law_237 rfl 1 rfl ?_
  refine w_aload_n hG dL_law_238 rfl 0 rfl ?_
  refine w_iload_n hG dL_law_239 rfl 3 rfl ?_
  refine w_iconst (v := nI 1) hG dL_law_240 rfl ?_
  refine w_iadd (z := nI (i + 1)) hG dL_law_241 (nI_add _ _) ?_
  refine w_sld (i := i + 1) hG (by omega) hL dL_law_242 ?_
  refine w_callX hG (mX_longestChain l x (xs (i + 1)) (hI.1.1.ok) (hI.1.1.2.1)) 1 q152 q153 q154 q26 q155 (by decide +kernel) rfl ⟨by decide, by decide⟩ [] rfl (by simp [Value.category]) dL_law_243 ?_
  intro v x' hx
  obtain ⟨z, rfl⟩ : ∃ z : Int32, v = some (.int z) := zw_int_longestChain hx
  refine w_aload_n hG dL_law_246 rfl 2 rfl ?_
  refine w_aload_n hG dL_law_247 rfl 0 rfl ?_
  refine w_iload_n hG dL_law_248 rfl 3 rfl ?_
  refine w_iconst (v := nI 1) hG dL_law_249 rfl ?_
  refine w_iadd (z := nI (i + 1)) hG dL_law_250 (nI_add _ _) ?_
  refine w_sld (i := i + 1) hG (by omega) hL dL_law_251 ?_
  refine w_callM hG (mM_longestChain l y (xs (i + 1)) (hI.ok)) 1 q241 q242 q243 q27 q244 (by decide +kernel) rfl ⟨by decide, by decide⟩ [.int z] rfl (by simp [Value.category]) dL_law_252 ?_
  intro v y' hy
  obtain ⟨z', e1, rfl, hJ⟩ := zw_longest hI hx hy
  obtain rfl : z = z' := by injection e1 with e1; injection e1
  exact w_same (tgt := 332) hG dL_law_255 (by decide) (kk _ _ hJ)
theorem w_c8 (hG : zw_R l b L xs q r ca G) (hi : i + 3 ≤ L) (hL : L ≤ 192) (hI : zw_I x y) (kk : ∀ x' y', zw_I x' y' → G x' y' 332 (zw_lv b q r i) []) : G x y 260 (zw_lv b q r i) [] := by
  refine w_aload_n hG dL_law_260 rfl 1 rfl ?_
  refine w_callX hG (mX_lowest l x  (hI.1)) 0 q160 q161 q162 q26 q163 (by decide +kernel) rfl ⟨by decide, by decide⟩ [] rfl (by simp [Value.category]) dL_law_261 ?_
  intro v x' hx
  obtain ⟨z, rfl⟩ : ∃ z : Int32, v = some (.int z) := zw_int_lowest hx
  refine w_aload_n hG dL_law_264 rfl 2 rfl ?_
  refine w_callM hG (mM_lowest l y  (hI.ok)) 0 q245 q246 q247 q27 q248 (by decide +kernel) rfl ⟨by decide, by decide⟩ [.int z] rfl (by simp [Value.category]) dL_law_265 ?_
  intro v y' hy
  obtain ⟨z', e1, rfl, hJ⟩ := zw_ext hI hx hy
  obtain rfl : z = z' := by injection e1 with e1; injection e1
  exact w_same (tgt := 332) hG dL_law_268 (by decide) (kk _ _ hJ)
theorem w_c9 (hG : zw_R l b L xs q r ca G) (hi : i + 3 ≤ L) (hL : L ≤ 192) (hI : zw_I x y) (kk : ∀ x' y', zw_I x' y' → G x' y' 332 (zw_lv b q r i) []) : G x y 273 (zw_lv b q r i) [] := by
  refine w_aload_n hG dL_law_273 rfl 1 rfl ?_
  refine w_callX hG (mX_highest l x  (hI.1)) 0 q164 q165 q166 q26 q167 (by decide +kernel) rfl ⟨by decide, by decide⟩ [] rfl (by simp [Value.category]) dL_law_274 ?_
  intro v x' hx
  obtain ⟨z, rfl⟩ : ∃ z : Int32, v = some (.int z) := zw_int_highest hx
  refine w_aload_n hG dL_law_277 rfl 2 rfl ?_
  refine w_callM hG (mM_highest l y  (hI.ok)) 0 q274 q275 q276 q27 q277 (by decide +kernel) rfl ⟨by decide, by decide⟩ [.int z] rfl (by simp [Value.category]) dL_law_278 ?_
  intro v y' hy
  obtain ⟨z', e1, rfl, hJ⟩ := zw_ext hI hx hy
  obtain rfl : z = z' := by injection e1 with e1; injection e1
  exact w_same (tgt := 332) hG dL_law_281 (by decide) (kk _ _ hJ)
theorem w_c10 (hG : zw_R l b L xs q r ca G) (hi : i + 3 ≤ L) (hL : L ≤ 192) (hI : zw_I x y) (kk : ∀ x' y', zw_I x' y' → G x' y' 332 (zw_lv b q r i) []) : G x y 286 (zw_lv b q r i) [] := by
  refine w_aload_n hG dL_law_286 rfl 1 rfl ?_
  refine w_aload_n hG dL_law_287 rfl 0 rfl ?_
  refine w_iload_n hG dL_law_288 rfl 3 rfl ?_
  refine w_iconst (v := nI 1) hG dL_law_289 rfl ?_
  refine w_iadd (z := nI (i + 1)) hG dL_law_290 (nI_add _ _) ?_
  refine w_sld (i := i + 1) hG (by omega) hL dL_law_291 ?_
  refine w_callX hG (mX_isLargest l x (xs (i + 1)) (hI.1)) 1 q168 q169 q170 q26 q171 (by decide +kernel) rfl ⟨by decide, by decide⟩ [] rfl (by simp [Value.category]) dL_law_292 ?_
  intro v x' hx
  obtain ⟨z, rfl⟩ : ∃ z : Int32, v = some (.int z) := zw_int_isLargest hx
  refine w_aload_n hG dL_law_295 rfl 2 rfl ?_
  refine w_aload_n hG dL_law_296 rfl 0 rfl ?_
  refine w_iload_n hG dL_law_297 rfl 3 rfl ?_
  refine w_iconst (v := nI 1) hG dL_law_298 rfl ?_
  refine w_iadd (z := nI (i + 1)) hG dL_law_299 (nI_add _ _) ?_
  refine w_sld (i := i + 1) hG (by omega) hL dL_law_300 ?_
  refine w_callM hG (mM_isLargest l y (xs (i + 1)) (hI.ok)) 1 q278 q279 q280 q27 q281 (by decide +kernel) rfl ⟨by decide, by decide⟩ [.int z] rfl (by simp [Value.category]) dL_law_301 ?_
  intro v y' hy
  obtain ⟨z', e1, rfl, hJ⟩ := zw_isL hI hx hy
  obtain rfl : z = z' := by injection e1 with e1; injection e1
  exact w_same (tgt := 332) hG dL_law_304 (by decide) (kk _ _ hJ)
theorem w_c11 (hG : zw_R l b L xs q r ca G) (hi : i + 3 ≤ L) (hL : L ≤ 192) (hI : zw_I x y) (kk : ∀ x' y', zw_I x' y' → G x' y' 332 (zw_lv b q r i) []) : G x y 309 (zw_lv b q r i) [] := by
  refine w_aload_n hG dL_law_309 rfl 1 rfl ?_
  refine w_aload_n hG dL_law_310 rfl 0 rfl ?_
  refine w_iload_n hG dL_law_311 rfl 3 rfl ?_
  refine w_iconst (v := nI 1) hG dL_law_312 rfl ?_
  refine w_iadd (z := nI (i + 1)) hG dL_law_313 (nI_add _ _) ?_
  refine w_sld (i := i + 1) hG (by omega) hL dL_law_314 ?_
  refine w_callX hG (mX_inSomeLargest l x (xs (i + 1)) (hI.1)) 1 q173 q174 q175 q26 q176 (by decide +kernel) rfl ⟨by decide, by decide⟩ [] rfl (by simp [Value.category]) dL_law_315 ?_
  intro v x' hx
  obtain ⟨z, rfl⟩ : ∃ z : Int32, v = some (.int z) := zw_int_inSomeLargest hx
  refine w_aload_n hG dL_law_318 rfl 2 rfl ?_
  refine w_aload_n hG dL_law_319 rfl 0 rfl ?_
  refine w_iload_n hG dL_law_320 rfl 3 rfl ?_
  refine w_iconst (v := nI 1) hG dL_law_321 rfl ?_
  refine w_iadd (z := nI (i + 1)) hG dL_law_322 (nI_add _ _) ?_
  refine w_sld (i := i + 1) hG (by omega) hL dL_law_323 ?_
  refine w_callM hG (mM_inSomeLargest l y (xs (i + 1)) (hI.ok)) 1 q282 q283 q284 q27 q285 (by decide +kernel) rfl ⟨by decide, by decide⟩ [.int z] rfl (by simp [Value.category]) dL_law_324 ?_
  intro v y' hy
  obtain ⟨z', e1, rfl, hJ⟩ := zw_inL hI hx hy
  obtain rfl : z = z' := by injection e1 with e1; injection e1
  exact w_same (tgt := 332) hG dL_law_327 (by decide) (kk _ _ hJ)
theorem w_loop (hG : zw_R l b L xs q r ca G) (hL : L ≤ 192) : ∀ (k i : Nat) (x y : zS), i ≤ L + 2 → L + 3 ≤ i + k → zw_I x y → G x y 18 (zw_lv b q r i) [] := by
  intro k
  induction k with
  | zero => intros; omega
  | succ k ih =>
    intro i x y hi hk hI
    refine w_iload_n hG dL_law_18 rfl 3 rfl ?_
    refine w_aload_n hG dL_law_19 rfl 0 rfl ?_
    refine w_slen hG dL_law_20 ?_
    refine w_iconst (v := nI 3) hG dL_law_21 rfl ?_
    refine w_isub (z := nI L - nI 3) hG dL_law_22 rfl ?_
    refine w_gt (tgt := 338) hG dL_law_23 (by decide) (fun _ => w_end hG) (fun h => ?_)
    have hi3 : i + 3 ≤ L := by
      rw [zw_gt hL (by omega)] at h
      omega
    refine w_aload_n hG dL_law_26 rfl 0 rfl ?_
    refine w_iload_n hG dL_law_27 rfl 3 rfl ?_
    refine w_sld (i := i) hG (by omega) hL dL_law_28 ?_
    refine w_bipush (v := nI 15) hG dL_law_29 (by decide) ?_
    obtain ⟨j, hj, ej⟩ := zw_and15 (xs i)
    refine w_iand (z := nI j) hG dL_law_31 ej ?_
    have kk : ∀ x' y', zw_I x' y' → G x' y' 332 (zw_lv b q r i) [] := by
      intro x' y' h'
      refine w_inc hG ?_
      refine w_goto (tgt := 18) hG dL_law_335 (by decide) ?_
      exact ih (i + 3) x' y' (by omega) (by omega) h'
    exact w_sw hG hj (w_c0 hG hi3 hL hI kk) (w_c1 hG hi3 hL hI kk) (w_c2 hG hi3 hL hI kk) (w_c3 hG hi3 hL hI kk) (w_c4 hG hi3 hL hI kk) (w_c5 hG hi3 hL hI kk) (w_c6 hG hi3 hL hI kk) (w_c7 hG hi3 hL hI kk) (w_c8 hG hi3 hL hI kk) (w_c9 hG hi3 hL hI kk) (w_c10 hG hi3 hL hI kk) (w_c11 hG hi3 hL hI kk) (kk _ _ hI)
end
end
section
set_option maxRecDepth 100000
theorem zw_arr {ty : FieldType} {args : Array Value} {s : State} (hty : ty = .int ∨ ty = .byte) (h : (Cond.arrayClass ty).before args s = true) : ∃ cA : ClassId, ArrOfT s cA ty ∧ va_RA s cA ty := by
  obtain ⟨cA, kA, comp, h1, h2, h3⟩ := Cond.arrayClass_spec h
  refine ⟨cA, fun n z => ⟨fun k h => (by cases h), kA, h2, comp, h3⟩, ?_⟩
  rcases hty with rfl | rfl <;> exact h1
set_option maxHeartbeats 4000000 in
/-- YOUR PART: from the entry, for every script of at most 192 ints, the law comes to its end with true -/
theorem whole_start {p : Program} {e : Env} {s : State} {m : MethodId} {below : List Frame} {meth : Method} {c : Code} (l : Launch) {b L : Nat} {xs : Nat → Int32} (hL : L ≤ 192) (C0 : lw_At p s m meth c b L xs) : W p l e room_1 s m #[Value.ref b] below meth c s.heap [] 0 0 (lw_Z below #[Value.ref b] s) (entryFrame m ([Value.ref b] : List Value).toArray 4) := by
  obtain ⟨hx, hb, hr, hml, hown, hts0, hX, hbl, hlocks, hgv⟩ := id C0
  have hts : ∀ w ∈ lw_all, w.before #[Value.ref b] s = true := fun w h => hts0 w (lw_all_tbl h)
  have hA : ∀ z : Nat, s.heap.size ≤ z → (fun z : Nat => s.heap.size ≤ z) z := fun _ h => h
  obtain ⟨c0, iS0, hKn0⟩ := u_known (C := RX0) (T := TX0) (N := 11) (n := 11) hts in_X0 (hts _ q29)
  obtain ⟨c1, iS1, hKn1⟩ := u_known (C := RX1) (T := TX1) (N := 3) (n := 3) hts in_X1 (hts _ q178)
  obtain ⟨D, hKc⟩ : ∃ D : va_G, ∀ (k : Nat) (z : vw_C), vwCl[k]? = some z → u_Kn s z.1 z.2.1 z.2.2 (D.1 k) (D.2 k) := by
    refine ⟨(fun k => if k = 0 then c0 else c1, fun k => if k = 0 then iS0 else iS1), ?_⟩
    intro k z hq
    match k, hq with
    | 0, hq => cases hq; exact hKn0
    | 1, hq => cases hq; exact hKn1
    | k + 2, hq => simp [vwCl] at hq
  obtain ⟨a0, ha0⟩ := zw_arr (Or.inl rfl) (hts _ q70)
  obtain ⟨a1, ha1⟩ := zw_arr (Or.inr rfl) (hts _ q71)
  obtain ⟨ca, hca⟩ : ∃ ca : Nat → ClassId, ∀ (k : Nat) (z : ClassId × FieldType), (zc_ty ca)[k]? = some z → ArrOfT s z.1 z.2 ∧ va_RA s z.1 z.2 := by
    refine ⟨fun k => if k = 0 then a0 else a1, ?_⟩
    intro k z hq
    match k, hq with
    | 0, hq => cases hq; exact ha0
    | 1, hq => cases hq; exact ha1
    | k + 2, hq => simp [zc_ty] at hq
  have hS : va_S (fun z : Nat => s.heap.size ≤ z) s.heap s.heap [] := va_S.rf
  have hK : va_K D vwCl (zc_ty ca) s := ⟨hKc, hca⟩
  have hP : va_P D vwCl [] s.heap := fun k z h => by simp at h
  have hD : va_D (fun z : Nat => s.heap.size ≤ z) [] := ⟨fun i j p z h => by simp at h, fun k z h => by simp at h⟩
  have hl := lv_entry ([.ref b]) (n := 4) (Nat.le_of_ble_eq_true rfl)
  rw [lg_entry_eq]
  generalize (lg_sl ([.ref b]) ++ List.replicate (4 - (lg_sl ([.ref b])).length) Slot.unset).toArray = ls at hl ⊢
  have hl : lv_has ls 4 [(0, .ref b)] := hl
  refine va_new (ci := 0) (fs := [.int 0, .null, .null, .int 0, .null, .null, .null, .null, .null, .null, .null]) (C := RX0) (T := TX0) (N := 11) hx hb hts in_X0 tyX0 tyX0_ok hown (hts _ q28) (hts _ q29) (hts _ q26) hK hP hD hS hA rfl (fun j hj => by rcases (show j = 0 ∨ j = 1 ∨ j = 2 ∨ j = 3 ∨ j = 4 ∨ j = 5 ∨ j = 6 ∨ j = 7 ∨ j = 8 ∨ j = 9 ∨ j = 10 by omega) with rfl | rfl | rfl | rfl | rfl | rfl | rfl | rfl | rfl | rfl | rfl <;> rfl) (Nat.le_of_ble_eq_true rfl) (Nat.le_of_ble_eq_true rfl) dL_law_0 (fun hq H hP hD hS => ?_)
  have hP : va_P D vwCl ([(hq, .inr (0, [.int 0, .null, .null, .int 0, .null, .null, .null, .null, .null, .null, .null]))]) H := hP
  have hD : va_D (fun z : Nat => s.heap.size ≤ z) ([(hq, .inr (0, [.int 0, .null, .null, .int 0, .null, .null, .null, .null, .null, .null, .null]))]) := hD
  refine W.widen (k := 1) (n := 11) (by decide) (by decide) ?_
  refine lv_dup hx hb dL_law_3 rfl ?_
  have hPc : va_P D vwCl [(hq, .inr (0, [.int 0, .null, .null, .int 0, .null, .null, .null, .null, .null, .null, .null]))] H := hP.sub [0] rfl
  have hDc : va_D (fun z : Nat => s.heap.size ≤ z) [(hq, .inr (0, [.int 0, .null, .null, .int 0, .null, .null, .null, .null, .null, .null, .null]))] := hD.sub [0] (by decide) rfl
  have hFc := va_free (wc := [(hq, .inr (0, [.int 0, .null, .null, .int 0, .null, .null, .null, .null, .null, .null, .null]))]) hD hS hA [0] rfl
  refine va_callv (va_runI (As := []) (rest := [.ref hq]) (own := R_law) (cc := code) (nL := 4) ⟨hx, hb, hml, hown, hts⟩ (zi_X l D ca hq H.size) (cwI 0 hts (lw_meth q32) rfl rfl rfl (hts _ q26) (hts _ q30) (hts _ q31) rfl (by decide +kernel) ⟨Nat.le_of_ble_eq_true rfl, Nat.le_of_ble_eq_true rfl⟩) ⟨fun a U g mk z => by obtain ⟨q0, q1, qP, qK, qD⟩ := z; exact ⟨q0, q1, qP, va_K.moved (u := U) (U := U.calling g mk a) (Vm.Alike.refl U.vm) qK, qD⟩, fun U hU hW => ⟨rfl, by rw [hU], by rw [hU]; exact hPc, va_K.moved hW.alike hK, hDc.weaken (fun _ _ _ _ => trivial)⟩⟩ rfl rfl hl.1 rfl (lv_room (Nat.le_of_ble_eq_true rfl)) dL_law_4 ⟨Nat.le_of_ble_eq_true rfl, Nat.le_of_ble_eq_true rfl⟩) hS (fun z _ h => hFc z h) hFc (fun q t H1 locs ht hvm hw hB hz1 hk1 hS => ?_)
  obtain ⟨eeq, hP1, hK1, hD1⟩ := hB
  rw [ht] at hP1
  obtain ⟨hP, hD⟩ := va_join (wr := []) (w1 := zc_XL q ca zi_s0) hP hD [0] [] rfl rfl (by decide) (by decide) hk1 hFc hP1 hD1
  generalize H1 = H at hP hS ⊢
  refine W.widen (k := 10) (n := 101) (by decide) (by decide) ?_
  refine lv_astore_n (lv' := [(1, .ref hq), (0, .ref b)]) hx hb dL_law_7 rfl hl (by decide) rfl (fun ls hl => ?_)
  have hP : va_P D vwCl (zc_XL q ca zi_s0) H := hP
  have hD : va_D (fun z : Nat => s.heap.size ≤ z) (zc_XL q ca zi_s0) := hD
  refine va_new (ci := 1) (fs := [.int 0, .null, .null]) (C := RX1) (T := TX1) (N := 3) hx hb hts in_X1 tyX1 tyX1_ok hown (hts _ q177) (hts _ q178) (hts _ q27) hK hP hD hS hA rfl (fun j hj => by rcases (show j = 0 ∨ j = 1 ∨ j = 2 by omega) with rfl | rfl | rfl <;> rfl) (Nat.le_of_ble_eq_true rfl) (Nat.le_of_ble_eq_true rfl) dL_law_8 (fun hr H hP hD hS => ?_)
  have hP : va_P D vwCl (zc_XL q ca zi_s0 ++ [(hr, .inr (1, [.int 0, .null, .null]))]) H := hP
  have hD : va_D (fun z : Nat => s.heap.size ≤ z) (zc_XL q ca zi_s0 ++ [(hr, .inr (1, [.int 0, .null, .null]))]) := hD
  refine W.widen (k := 11) (n := 104) (by decide) (by decide) ?_
  refine lv_dup hx hb dL_law_11 rfl ?_
  have hPc : va_P D vwCl [(hr, .inr (1, [.int 0, .null, .null]))] H := hP.sub [10] rfl
  have hDc : va_D (fun z : Nat => s.heap.size ≤ z) [(hr, .inr (1, [.int 0, .null, .null]))] := hD.sub [10] (by decide) rfl
  have hFc := va_free (wc := [(hr, .inr (1, [.int 0, .null, .null]))]) hD hS hA [10] rfl
  refine va_callv (va_runI (As := []) (rest := [.ref hr]) (own := R_law) (cc := code) (nL := 4) ⟨hx, hb, hml, hown, hts⟩ (zi_M l D ca hr H.size) (cwI 0 hts (lw_meth q181) rfl rfl rfl (hts _ q27) (hts _ q179) (hts _ q180) rfl (by decide +kernel) ⟨Nat.le_of_ble_eq_true rfl, Nat.le_of_ble_eq_true rfl⟩) ⟨fun a U g mk z => by obtain ⟨q0, q1, qP, qK, qD⟩ := z; exact ⟨q0, q1, qP, va_K.moved (u := U) (U := U.calling g mk a) (Vm.Alike.refl U.vm) qK, qD⟩, fun U hU hW => ⟨rfl, by rw [hU], by rw [hU]; exact hPc, va_K.moved hW.alike hK, hDc.weaken (fun _ _ _ _ => trivial)⟩⟩ rfl rfl hl.1 rfl (lv_room (Nat.le_of_ble_eq_true rfl)) dL_law_12 ⟨Nat.le_of_ble_eq_true rfl, Nat.le_of_ble_eq_true rfl⟩) hS (fun z _ h => hFc z h) hFc (fun r t H1 locs ht hvm hw hB hz1 hk1 hS => ?_)
  obtain ⟨eer, hP1, hK1, hD1⟩ := hB
  rw [ht] at hP1
  obtain ⟨hP, hD⟩ := va_join (wr := zc_XL q ca zi_s0) (w1 := zc_ML r ca zi_m0) hP hD [10] [0, 1, 2, 3, 4, 5, 6, 7, 8, 9] rfl rfl (by decide) (by decide) hk1 hFc hP1 hD1
  generalize H1 = H at hP hS ⊢
  refine W.widen (k := 13) (n := 1138) (by decide) (by decide) ?_
  refine lv_astore_n (lv' := [(2, .ref hr), (1, .ref hq), (0, .ref b)]) hx hb dL_law_15 rfl hl (by decide) rfl (fun ls hl => ?_)
  refine lv_iconst (v := nI 0) hx hb dL_law_16 (by decide) ?_
  refine lv_istore_n (lv' := [(3, .int (nI 0)), (2, .ref hr), (1, .ref hq), (0, .ref b)]) hx hb dL_law_17 rfl hl (by decide) rfl (fun ls hl => ?_)
  have hG : zw_R l b L xs q r ca (zw_G p l e s m below meth c b D q r ca) := ⟨p, e, s, m, below, meth, c, D, rfl, C0, hK⟩
  exact w_loop hG hL (L + 3) 0 zi_s0 zi_m0 (by omega) (by omega) zw_0 _ _ ls hP hD hS (by rw [← eeq, ← eer] at hl; exact lv_sub hl [3, 2, 1, 0] rfl)
set_option maxHeartbeats 4000000 in
theorem lw_walk (l : Launch) (b : Addr) (xs : List Int32) : MetFree l x (headSpec (Jvm.Cond.code x code maxLocals ret :: tables_1) room_1) (lw_P b xs) (fun _ _ _ _ _ => True) lw_Q := by
  refine MetFree.of_bodyS (code := code) (maxLocals := maxLocals) (ret := ret) (by decide) ?_ ?_
  · intro args s m h hn
    obtain ⟨meth, c, h1, h2, h3, h4, h5, h6, -, -⟩ := Cond.code_spec hn (atoms_spec (ws := Jvm.Cond.code x code maxLocals ret :: tables_1) h _ List.mem_cons_self)
    exact ⟨meth, c, h1, h2, h3, h4, h5, h6⟩
  · intro p e s m args below meth c s₁ B hml0 hP _
    obtain ⟨rfl, hx, hbd, hgv⟩ := hP
    obtain ⟨scr, harrAt, hlist, hof, hsmall⟩ := hx
    obtain ⟨hcb, hkn, -, -⟩ := State.arrayAt?_spec harrAt
    have hown : s.vm.findClass R_law = some m.cls := findClass_of_methodNamed B.named
    have hts0 : ∀ c ∈ (Jvm.Cond.code x code maxLocals ret :: tables_1), c.before #[Value.ref b] s = true := atoms_spec (ws := Jvm.Cond.code x code maxLocals ret :: tables_1) B.pre
    have hts : ∀ w ∈ lw_tbl, w.before #[Value.ref b] s = true := k2_hts_sels lw_privs (fun w hw => hts0 w (List.mem_cons_of_mem _ hw)) lw_privs_ok
    have hml : c.maxLocals = 4 := B.maxLocals_eq (hts0 _ List.mem_cons_self)
    have X₀ : Stand p l e room_1 s m #[Value.ref b] below meth c s₁ [] 0 0 := Stand.of_body B
    have hh0 : s₁.heap = s.heap := by rw [B.state]; rfl
    have hsz : scr.slots.size = xs.length := by rw [← Array.length_toList, hlist, List.length_map]
    have hval : ∀ j : Nat, j < xs.length → scr.slots[j]? = some (.int (xs.getD j 0)) := fun j hj => by
      rw [← Array.getElem?_toList, hlist]
      simp [hj]
    have hbl : b < s.heap.size := (Array.getElem?_eq_some_iff.mp hcb).1
    have hX : va_X b xs.length (fun j => xs.getD j 0) s s.heap := ⟨scr, hcb, hof, hkn, hsz, hval⟩
    have K : W p l e room_1 s m #[Value.ref b] below meth c s₁.heap [] 0 0 (lw_Z below #[Value.ref b] s) (entryFrame m ([Value.ref b] : List Value).toArray 4) := by
      rw [hh0]
      exact whole_start l hbd ⟨B.exec, B.bytes, B.returns, hml, hown, hts, hX, hbl, B.notSynchronized, hgv⟩
    obtain ⟨t, a1, o, b1, b2, b3⟩ := K s₁ rfl X₀
    exact ⟨t, o, a1, b1, b2, b3⟩
theorem lw_pre_spec {args : Array Value} {s : State} (h : (Jvm.Cond.and given_1 narrow_1).before args s = true) (hr : rest_1_c.before args s = true) : ∃ (b : Addr) (xs : List Int32), lw_P b xs args s := by
  have hs := flat_of_before _ h
  have hq := flat_of_before _ hr
  have hc : (Cond.count 1).before args s = true := hs _ (by decide +kernel)
  have harr : (Cond.arrayOf (.arg 0) .int).before args s = true := hs _ (by decide +kernel)
  have hle : (Cond.le (.length (.arg 0)) (.int 192)).before args s = true := hs _ (by decide +kernel)
  have hlen : (Cond.isInt (.length (.arg 0))).before args s = true := hq _ (by decide +kernel)
  have hall : (Cond.all (.arg 0) (.isInt (.elem (.arg 0) (.index 0)))).before args s = true := hq _ (by decide +kernel)
  obtain ⟨b, xs, hb, hx⟩ := State.ints_of_pre rfl harr hlen hall
  have hsm : xs.length < 2 ^ 31 := hx.choose_spec.2.2.2
  have hev : (Term.length (.arg 0)).eval args s none [] s = some (.int xs.length.toInt32) := hx.length_eval hb
  have hv := Cond.le_ints hev (show (Term.int 192).eval args s none [] s = some (.int 192) from rfl)
  have hd : xs.length.toInt32 ≤ 192 := by
    simpa [Cond.before, Cond.holds, hv] using hle
  have hN : xs.length ≤ 192 := (Int32.ofNat_le_ofNat hsm (by decide)).mp (show Int32.ofNat xs.length ≤ Int32.ofNat 192 from hd)
  exact ⟨b, xs, Cond.one_arg hc (show args[0]? = some (.ref b) from hb), hx, hN, h⟩
theorem lw_comes (l : Launch) : Comes l x (Jvm.Cond.code x code maxLocals ret :: tables_1) room_1 (fun tb e args s => Calls_1 tb e args s ∧ rest_1 tb e args s ∧ Pre_1 tb e args s)
    (fun _ _ args s o t => lw_Q args s o t) := by
  intro p e ha hc hk s m args below hf hfit hheap happ hpre
  obtain ⟨b, xs, hP⟩ := lw_pre_spec hpre.2.2 hpre.2.1
  obtain ⟨k, o, h1, h2, h3, hQ⟩ := lw_walk l b xs p e ha hc hk s m args below hf ((Spec.applies_iff_loose hf).mp happ).1 hP trivial
  exact ⟨k, o, h1, h2, h3, hQ⟩
theorem lw_frame {s t : State} {o : Outcome} {args : Array Value} (h : Framed s o t [] 600000 7290000) :
    Framed s o t (fieldLocs frame_1_writes args s ++ arrayLocs frame_1_arrays args s ++ staticLocs frame_1_statics s) 600000 7290000 := h
theorem lw_limb (L : Cond) (hL : ∀ (args : Array Value) (s t : State), L.after args s (.returned (some (.int 1))) t = true) :
    ArmFor flags0 classFile x code maxLocals ret World_1 tables_1 room_1 Calls_1 rest_1 Pre_1
      (fun tb e a s o t => postC L tb e a s o t ∧ Framed s o t (fieldLocs frame_1_writes a s ++ arrayLocs frame_1_arrays a s ++ staticLocs frame_1_statics s) 600000 7290000) := by
  intro l _ _ _ p e ha hc hk s m args below hf hfit hheap happ hpre
  obtain ⟨k, o, h1, h2, h3, rfl, hF⟩ := lw_comes l p e ha hc hk s m args below hf hfit hheap happ hpre
  exact ⟨k, _, h1, h2, h3, hL args s _, lw_frame hF⟩
theorem i_vc : Claimed_1_1 ∧ Claimed_1_2 := ⟨lw_limb limb_1_1 (fun args s t => by simp [limb_1_1, Cond.after, Cond.holds, Cond.value]), lw_limb limb_1_2 (fun args s t => Cond.after_iff.mpr (by
  first | (rw [show limb_1_2 = Cond.eq .result (.int 1) from rfl, Cond.eq_ints (x := 1) (y := 1) rfl rfl]; simp; done) | (simp [limb_1_2, Cond.value, Term.eval]; done)))⟩
end
